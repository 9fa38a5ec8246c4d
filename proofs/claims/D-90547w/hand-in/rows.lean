section
/-- a private method of a class that the tables say can be made, by its rows of tables_1 -/
def lw_okq (q : MethodName × Nat) : Prop := (q.1.cls ≠ "java/lang/invoke/MethodHandle" ∧ q.1.cls ≠ "java/lang/invoke/VarHandle") ∧ Cond.instantiable q.1.cls q.2 ∈ tables_1 ∧ Cond.privateMethod q.1 ∈ tables_1 ∧ Cond.instanceMethod q.1 ∈ tables_1
set_option maxRecDepth 100000
theorem lw_t1 {w : Cond} (h : w ∈ tables_1_1) : w ∈ tables_1 := List.mem_append_left _ h
theorem lw_t2 {w : Cond} (h : w ∈ tables_1_2) : w ∈ tables_1 := List.mem_append_right _ (List.mem_append_left _ h)
theorem lw_t3 {w : Cond} (h : w ∈ tables_1_3) : w ∈ tables_1 := List.mem_append_right _ (List.mem_append_right _ h)
theorem lw_p0 : lw_okq (⟨"java/util/Vector", "add", "(Ljava/lang/Object;[Ljava/lang/Object;I)V"⟩, 4) := ⟨⟨by decide +kernel, by decide +kernel⟩, lw_t1 (List.mem_of_getElem? (i := 161) rfl), lw_t1 (List.mem_of_getElem? (i := 159) rfl), lw_t1 (List.mem_of_getElem? (i := 160) rfl)⟩
theorem lw_p1 : lw_okq (⟨"java/util/Vector", "grow", "()[Ljava/lang/Object;"⟩, 4) := ⟨⟨by decide +kernel, by decide +kernel⟩, lw_t1 (List.mem_of_getElem? (i := 161) rfl), lw_t1 (List.mem_of_getElem? (i := 164) rfl), lw_t1 (List.mem_of_getElem? (i := 165) rfl)⟩
theorem lw_p2 : lw_okq (⟨"java/util/Vector", "grow", "(I)[Ljava/lang/Object;"⟩, 4) := ⟨⟨by decide +kernel, by decide +kernel⟩, lw_t1 (List.mem_of_getElem? (i := 161) rfl), lw_t1 (List.mem_of_getElem? (i := 168) rfl), lw_t1 (List.mem_of_getElem? (i := 169) rfl)⟩
theorem lw_p3 : lw_okq (⟨"java/util/Hashtable", "addEntry", "(ILjava/lang/Object;Ljava/lang/Object;I)V"⟩, 8) := ⟨⟨by decide +kernel, by decide +kernel⟩, lw_t1 (List.mem_of_getElem? (i := 67) rfl), lw_t2 (List.mem_of_getElem? (i := 118) rfl), lw_t2 (List.mem_of_getElem? (i := 119) rfl)⟩
theorem lw_p4 : lw_okq (⟨"java/util/Hashtable", "getEnumeration", "(I)Ljava/util/Enumeration;"⟩, 8) := ⟨⟨by decide +kernel, by decide +kernel⟩, lw_t1 (List.mem_of_getElem? (i := 67) rfl), lw_t2 (List.mem_of_getElem? (i := 204) rfl), lw_t2 (List.mem_of_getElem? (i := 205) rfl)⟩
def lw_privs_1 : List (MethodName × Nat) := [(⟨"java/util/Vector", "add", "(Ljava/lang/Object;[Ljava/lang/Object;I)V"⟩, 4), (⟨"java/util/Vector", "grow", "()[Ljava/lang/Object;"⟩, 4), (⟨"java/util/Vector", "grow", "(I)[Ljava/lang/Object;"⟩, 4), (⟨"java/util/Hashtable", "addEntry", "(ILjava/lang/Object;Ljava/lang/Object;I)V"⟩, 8), (⟨"java/util/Hashtable", "getEnumeration", "(I)Ljava/util/Enumeration;"⟩, 8)]
theorem lw_r1 : ∀ q ∈ lw_privs_1, lw_okq q := List.forall_mem_cons.mpr ⟨lw_p0, List.forall_mem_cons.mpr ⟨lw_p1, List.forall_mem_cons.mpr ⟨lw_p2, List.forall_mem_cons.mpr ⟨lw_p3, List.forall_mem_cons.mpr ⟨lw_p4, fun _ h => absurd h List.not_mem_nil⟩⟩⟩⟩⟩
def lw_privs : List (MethodName × Nat) := lw_privs_1
def lw_tbl : List Cond := k2_sels lw_privs ++ tables_1
theorem lw_privs_ok : ∀ q ∈ lw_privs, lw_okq q := lw_r1
def lw_all : List Cond := lw_tbl.filter goodWord
/-- a word of the tables by its place: claim/WORDS.tsv -/
theorem lw_w {w : Cond} (i : Nat) (h : lw_tbl[i]? = some w) (g : goodWord w = true) : w ∈ lw_all := List.mem_filter.mpr ⟨List.mem_of_getElem? h, g⟩
theorem lw_all_tbl {w : Cond} (h : w ∈ lw_all) : w ∈ lw_tbl := (List.mem_filter.mp h).1
theorem lw_self : GoodIn lw_all lw_all := fun w h => ⟨h, good_of_word (List.mem_filter.mp h).2⟩
/-- a class's field words, by their places -/
theorem lw_in (ws : List Cond) (ps : List Nat) (hp : ws = ps.filterMap (fun i => lw_tbl[i]?)) (hg : ws.all goodWord = true) : ∀ w ∈ ws, w ∈ lw_all := by
  intro w h
  have h1 := List.all_eq_true.mp hg w h
  rw [hp] at h
  obtain ⟨i, -, hi⟩ := List.mem_filterMap.mp h
  exact lw_w i hi h1
/-- the words of a contract for the method y with code b, L locals, answer r -/
abbrev ws_ (y : MethodName) (b : ByteArray) (L : Nat) (r : Option FieldType) : List Cond := Cond.code y b L r :: lw_all
theorem lw_meth {y : MethodName} {b : ByteArray} {L : Nat} {r : Option FieldType} (h : Cond.code y b L r ∈ lw_all) : GoodIn lw_all (ws_ y b L r) := by
  intro w hw
  rcases List.mem_cons.mp hw with e | e
  · rw [e]
    exact lw_self _ h
  · exact lw_self _ e
theorem lw_app {a c : List Cond} (ha : ∀ w ∈ a, w ∈ lw_all) (hc : GoodIn lw_all c) : GoodIn lw_all (a ++ c) := by
  intro w hw
  rcases List.mem_append.mp hw with e | e
  · exact lw_self w (ha w e)
  · exact hc w e
/-- what a call through an object asks: cwV n hts (lw_V ..) -/
theorem lw_V {own : String} {idx : Nat} {C : String} {y : MethodName} {b : ByteArray} {L : Nat} {r : Option FieldType} (h1 : Cond.methodLink own idx y ∈ lw_all) (h2 : Cond.instanceMethod y ∈ lw_all) (h3 : Cond.selects C y y ∈ lw_all) (h4 : Cond.initialized C ∈ lw_all) (h5 : Cond.code y b L r ∈ lw_all) : GoodIn lw_all (wsV own idx C y (ws_ y b L r)) := by
  refine lw_app ?_ (lw_meth h5)
  intro w hw
  simp only [List.mem_cons, List.not_mem_nil, or_false] at hw
  rcases hw with e | e | e | e
  · rw [e]; exact h1
  · rw [e]; exact h2
  · rw [e]; exact h3
  · rw [e]; exact h4
/-- what a static call asks: va_cwS n hts (lw_S ..) -/
theorem lw_S {own : String} {idx : Nat} {y : MethodName} {b : ByteArray} {L : Nat} {r : Option FieldType} (h1 : Cond.methodLink own idx y ∈ lw_all) (h2 : Cond.static y ∈ lw_all) (h3 : Cond.initialized y.cls ∈ lw_all) (h4 : Cond.code y b L r ∈ lw_all) : GoodIn lw_all (va_wsS own idx y (ws_ y b L r)) := by
  refine lw_app ?_ (lw_meth h4)
  intro w hw
  simp only [List.mem_cons, List.not_mem_nil, or_false] at hw
  rcases hw with e | e | e
  · rw [e]; exact h1
  · rw [e]; exact h2
  · rw [e]; exact h3
/-- the words of a contract for a method WITH HANDLERS (hh: its table) -/
abbrev wsW_ (y : MethodName) (b : ByteArray) (L : Nat) (r : Option FieldType) (hh : List (Nat × Nat × Nat × Nat)) : List Cond := Cond.codeWith y b L r hh :: lw_all
theorem lw_methW {y : MethodName} {b : ByteArray} {L : Nat} {r : Option FieldType} {hh : List (Nat × Nat × Nat × Nat)} (h : Cond.codeWith y b L r hh ∈ lw_all) : GoodIn lw_all (wsW_ y b L r hh) := by
  intro w hw
  rcases List.mem_cons.mp hw with e | e
  · rw [e]
    exact lw_self _ h
  · exact lw_self _ e
/-- any list of words by their places (lw_in), good -/
theorem lw_good {ws : List Cond} (h : ∀ w ∈ ws, w ∈ lw_all) : GoodIn lw_all ws := fun w hw => lw_self w (h w hw)
/-- what a call of a method with handlers asks: vx_cwVW n hts (lw_VW ..), vx_cwSW n hts (lw_SW ..) -/
theorem lw_VW {own : String} {idx : Nat} {C : String} {y : MethodName} {b : ByteArray} {L : Nat} {r : Option FieldType} {hh : List (Nat × Nat × Nat × Nat)} (h1 : Cond.methodLink own idx y ∈ lw_all) (h2 : Cond.instanceMethod y ∈ lw_all) (h3 : Cond.selects C y y ∈ lw_all) (h4 : Cond.initialized C ∈ lw_all) (h5 : Cond.codeWith y b L r hh ∈ lw_all) : GoodIn lw_all (wsV own idx C y (wsW_ y b L r hh)) := by
  refine lw_app ?_ (lw_methW h5)
  intro w hw
  simp only [List.mem_cons, List.not_mem_nil, or_false] at hw
  rcases hw with e | e | e | e
  · rw [e]; exact h1
  · rw [e]; exact h2
  · rw [e]; exact h3
  · rw [e]; exact h4
theorem lw_SW {own : String} {idx : Nat} {y : MethodName} {b : ByteArray} {L : Nat} {r : Option FieldType} {hh : List (Nat × Nat × Nat × Nat)} (h1 : Cond.methodLink own idx y ∈ lw_all) (h2 : Cond.static y ∈ lw_all) (h3 : Cond.initialized y.cls ∈ lw_all) (h4 : Cond.codeWith y b L r hh ∈ lw_all) : GoodIn lw_all (va_wsS own idx y (wsW_ y b L r hh)) := by
  refine lw_app ?_ (lw_methW h4)
  intro w hw
  simp only [List.mem_cons, List.not_mem_nil, or_false] at hw
  rcases hw with e | e | e
  · rw [e]; exact h1
  · rw [e]; exact h2
  · rw [e]; exact h3
/-- a word by its place in its run of the tables -/
theorem lw_at {r : List Cond} (hr : ∀ w ∈ r, w ∈ lw_tbl) {w : Cond} (i : Nat) (h : r[i]? = some w) : w ∈ lw_tbl := hr w (List.mem_of_getElem? h)
theorem lw_g {w : Cond} (h : w ∈ lw_tbl) (g : goodWord w = true) : w ∈ lw_all := List.mem_filter.mpr ⟨h, g⟩
theorem lw_ms : ∀ w ∈ k2_sels lw_privs, w ∈ lw_tbl := fun w h => show w ∈ k2_sels lw_privs ++ tables_1 from List.mem_append_left _ h
theorem lw_m1 : ∀ w ∈ tables_1_1, w ∈ lw_tbl := fun w h => show w ∈ k2_sels lw_privs ++ tables_1 from List.mem_append_right (k2_sels lw_privs) (show w ∈ tables_1 from List.mem_append_left _ h)
theorem lw_m2 : ∀ w ∈ tables_1_2, w ∈ lw_tbl := fun w h => show w ∈ k2_sels lw_privs ++ tables_1 from List.mem_append_right (k2_sels lw_privs) (show w ∈ tables_1 from List.mem_append_right _ (List.mem_append_left _ h))
theorem lw_m3 : ∀ w ∈ tables_1_3, w ∈ lw_tbl := fun w h => show w ∈ k2_sels lw_privs ++ tables_1 from List.mem_append_right (k2_sels lw_privs) (show w ∈ tables_1 from List.mem_append_right _ (List.mem_append_right _ h))
theorem qs0 : (Cond.selects "java/util/Vector" ⟨"java/util/Vector", "add", "(Ljava/lang/Object;[Ljava/lang/Object;I)V"⟩ ⟨"java/util/Vector", "add", "(Ljava/lang/Object;[Ljava/lang/Object;I)V"⟩) ∈ lw_all := lw_g (lw_at lw_ms 0 rfl) rfl
theorem qs1 : (Cond.selects "java/util/Vector" ⟨"java/util/Vector", "grow", "()[Ljava/lang/Object;"⟩ ⟨"java/util/Vector", "grow", "()[Ljava/lang/Object;"⟩) ∈ lw_all := lw_g (lw_at lw_ms 1 rfl) rfl
theorem qs2 : (Cond.selects "java/util/Vector" ⟨"java/util/Vector", "grow", "(I)[Ljava/lang/Object;"⟩ ⟨"java/util/Vector", "grow", "(I)[Ljava/lang/Object;"⟩) ∈ lw_all := lw_g (lw_at lw_ms 2 rfl) rfl
theorem qs3 : (Cond.selects "java/util/Hashtable" ⟨"java/util/Hashtable", "addEntry", "(ILjava/lang/Object;Ljava/lang/Object;I)V"⟩ ⟨"java/util/Hashtable", "addEntry", "(ILjava/lang/Object;Ljava/lang/Object;I)V"⟩) ∈ lw_all := lw_g (lw_at lw_ms 3 rfl) rfl
theorem qs4 : (Cond.selects "java/util/Hashtable" ⟨"java/util/Hashtable", "getEnumeration", "(I)Ljava/util/Enumeration;"⟩ ⟨"java/util/Hashtable", "getEnumeration", "(I)Ljava/util/Enumeration;"⟩) ∈ lw_all := lw_g (lw_at lw_ms 4 rfl) rfl
end
section
/-! DECODE ROWS BY BYTES: one lemma an opcode; a method's code is cut into short pieces once, and a row reads its own piece alone. -/
set_option maxRecDepth 100000
/-- the code has just these bytes from pc on -/
def DkAt (code : ByteArray) (pc : Nat) (bs : List UInt8) : Prop := ∀ (j : Nat) (b : UInt8), bs[j]? = some b → code.data.toList[pc + j]? = some b
/-- the piece W has the bytes bs from its place j on -/
def dkIn (W : List UInt8) (j : Nat) (bs : List UInt8) : Bool := decide ((W.drop j).take bs.length = bs)
theorem dk_seg {l W T : List UInt8} {o o2 : Nat} (h : l.drop o = W ++ T) (n : Nat) (hn : W.length = n) (ho : o + n = o2) : l.drop o2 = T := by
  subst ho
  rw [← List.drop_drop, h, List.drop_left' hn]
theorem dk_at {code : ByteArray} {W T bs : List UInt8} {o pc : Nat} (h : code.data.toList.drop o = W ++ T) (j : Nat) (hp : o + j = pc) (hw : dkIn W j bs = true) : DkAt code pc bs := by
  subst hp
  intro i b e
  have h1 := of_decide_eq_true hw
  have h2 : i < bs.length := (List.getElem?_eq_some_iff.mp e).1
  have h3 : W[j + i]? = some b := by
    rw [← h1, List.getElem?_take, if_pos h2, List.getElem?_drop] at e
    exact e
  have h4 : j + i < W.length := (List.getElem?_eq_some_iff.mp h3).1
  have h5 : (code.data.toList.drop o)[j + i]? = some b := by
    rw [h, List.getElem?_append_left h4]
    exact h3
  rw [List.getElem?_drop, ← Nat.add_assoc] at h5
  exact h5
theorem dk_u1 {A : ByteArray} {p : Nat} {b : UInt8} (h : A.data.toList[p]? = some b) : (Reader.u1 : Reader DecodeError Nat) A p = .ok (b.toNat, p + 1) := by
  obtain ⟨h1, h2⟩ := List.getElem?_eq_some_iff.mp h
  have h3 : p < A.size := by simpa using h1
  have h4 : A[p]'h3 = b := h2
  have e : (Reader.u1 : Reader DecodeError Nat) A p = (if h : p < A.size then .ok (A[p].toNat, p + 1) else .error (HasTruncated.truncated p)) := by
    show (do if h : p < A.size then do set (p + 1); Pure.pure A[p].toNat else MonadExcept.throw (HasTruncated.truncated p) : Reader DecodeError Nat) A p = _
    by_cases hi : p < A.size
    · rw [dif_pos hi, dif_pos hi]; rfl
    · rw [dif_neg hi, dif_neg hi]; rfl
  rw [e, dif_pos h3, h4]
theorem dk_bind {α β : Type} {r : Reader DecodeError α} {f : α → Reader DecodeError β} {A : ByteArray} {p s : Nat} {a : α} (h : r A p = .ok (a, s)) : (r >>= f) A p = f a A s := by
  show (do let (a, s) ← r A p; f a A s : Except DecodeError (β × Nat)) = _
  rw [h]
  rfl
theorem dk_map {α β : Type} {r : Reader DecodeError α} {g : α → β} {A : ByteArray} {p s : Nat} {a : α} (h : r A p = .ok (a, s)) : (g <$> r) A p = .ok (g a, s) := by
  show (do let (a, s) ← r A p; .ok (g a, s) : Except DecodeError (β × Nat)) = _
  rw [h]
  rfl
theorem dk_u2 {A : ByteArray} {p : Nat} {a b : UInt8} (h : A.data.toList[p]? = some a) (h2 : A.data.toList[p + 1]? = some b) : (Reader.u2 : Reader DecodeError Nat) A p = .ok (a.toNat * 256 + b.toNat, p + 2) := by
  show (Reader.u1 >>= fun hi => Reader.u1 >>= fun lo => Pure.pure (hi * 256 + lo) : Reader DecodeError Nat) A p = _
  rw [dk_bind (dk_u1 h), dk_bind (dk_u1 h2)]
  rfl
theorem dk_of {code : ByteArray} {pc n : Nat} {i : Instr} (h : Decoder.instr pc code pc = .ok (i, pc + n)) : decode code pc = .ok (i, n) := by
  have e : decode code pc = (match Decoder.instr pc code pc with | .error x => .error x | .ok (j, s) => .ok (j, s - pc)) := by
    show (do let (j, s) ← Decoder.instr pc code pc; Pure.pure (j, s - pc) : Except DecodeError (Instr × Nat)) = _
    cases Decoder.instr pc code pc <;> rfl
  rw [e, h]
  show Except.ok (i, pc + n - pc) = _
  rw [Nat.add_sub_cancel_left]
theorem dk_2 {code : ByteArray} {pc : Nat} (h : DkAt code pc [2]) : decode code pc = .ok (.iconst (-1), 1) := dk_of ((dk_bind (dk_u1 (h 0 _ rfl))).trans rfl)
theorem dk_3 {code : ByteArray} {pc : Nat} (h : DkAt code pc [3]) : decode code pc = .ok (.iconst 0, 1) := dk_of ((dk_bind (dk_u1 (h 0 _ rfl))).trans rfl)
theorem dk_4 {code : ByteArray} {pc : Nat} (h : DkAt code pc [4]) : decode code pc = .ok (.iconst 1, 1) := dk_of ((dk_bind (dk_u1 (h 0 _ rfl))).trans rfl)
theorem dk_5 {code : ByteArray} {pc : Nat} (h : DkAt code pc [5]) : decode code pc = .ok (.iconst 2, 1) := dk_of ((dk_bind (dk_u1 (h 0 _ rfl))).trans rfl)
theorem dk_6 {code : ByteArray} {pc : Nat} (h : DkAt code pc [6]) : decode code pc = .ok (.iconst 3, 1) := dk_of ((dk_bind (dk_u1 (h 0 _ rfl))).trans rfl)
theorem dk_11 {code : ByteArray} {pc : Nat} (h : DkAt code pc [11]) : decode code pc = .ok (.fconst 0, 1) := dk_of ((dk_bind (dk_u1 (h 0 _ rfl))).trans rfl)
theorem dk_16 {code : ByteArray} {pc : Nat} (a : UInt8) (h : DkAt code pc [16, a]) : decode code pc = .ok (.bipush (Reader.signed 8 a.toNat), 2) := dk_of ((dk_bind (dk_u1 (h 0 _ rfl))).trans ((dk_bind (dk_map (dk_u1 (h 1 _ rfl)))).trans rfl))
theorem dk_17 {code : ByteArray} {pc : Nat} (a b : UInt8) (h : DkAt code pc [17, a, b]) : decode code pc = .ok (.sipush (Reader.signed 16 (a.toNat * 256 + b.toNat)), 3) := dk_of ((dk_bind (dk_u1 (h 0 _ rfl))).trans ((dk_bind (dk_map (dk_u2 (h 1 _ rfl) (h 2 _ rfl)))).trans rfl))
theorem dk_18 {code : ByteArray} {pc : Nat} (a : UInt8) (h : DkAt code pc [18, a]) : decode code pc = .ok (.ldc a.toNat, 2) := dk_of ((dk_bind (dk_u1 (h 0 _ rfl))).trans ((dk_bind (dk_u1 (h 1 _ rfl))).trans rfl))
theorem dk_21 {code : ByteArray} {pc : Nat} (a : UInt8) (h : DkAt code pc [21, a]) : decode code pc = .ok (.iload a.toNat, 2) := dk_of ((dk_bind (dk_u1 (h 0 _ rfl))).trans ((dk_bind (dk_u1 (h 1 _ rfl))).trans rfl))
theorem dk_25 {code : ByteArray} {pc : Nat} (a : UInt8) (h : DkAt code pc [25, a]) : decode code pc = .ok (.aload a.toNat, 2) := dk_of ((dk_bind (dk_u1 (h 0 _ rfl))).trans ((dk_bind (dk_u1 (h 1 _ rfl))).trans rfl))
theorem dk_26 {code : ByteArray} {pc : Nat} (h : DkAt code pc [26]) : decode code pc = .ok (.iload_n 0, 1) := dk_of ((dk_bind (dk_u1 (h 0 _ rfl))).trans rfl)
theorem dk_27 {code : ByteArray} {pc : Nat} (h : DkAt code pc [27]) : decode code pc = .ok (.iload_n 1, 1) := dk_of ((dk_bind (dk_u1 (h 0 _ rfl))).trans rfl)
theorem dk_28 {code : ByteArray} {pc : Nat} (h : DkAt code pc [28]) : decode code pc = .ok (.iload_n 2, 1) := dk_of ((dk_bind (dk_u1 (h 0 _ rfl))).trans rfl)
theorem dk_29 {code : ByteArray} {pc : Nat} (h : DkAt code pc [29]) : decode code pc = .ok (.iload_n 3, 1) := dk_of ((dk_bind (dk_u1 (h 0 _ rfl))).trans rfl)
theorem dk_34 {code : ByteArray} {pc : Nat} (h : DkAt code pc [34]) : decode code pc = .ok (.fload_n 0, 1) := dk_of ((dk_bind (dk_u1 (h 0 _ rfl))).trans rfl)
theorem dk_35 {code : ByteArray} {pc : Nat} (h : DkAt code pc [35]) : decode code pc = .ok (.fload_n 1, 1) := dk_of ((dk_bind (dk_u1 (h 0 _ rfl))).trans rfl)
theorem dk_36 {code : ByteArray} {pc : Nat} (h : DkAt code pc [36]) : decode code pc = .ok (.fload_n 2, 1) := dk_of ((dk_bind (dk_u1 (h 0 _ rfl))).trans rfl)
theorem dk_42 {code : ByteArray} {pc : Nat} (h : DkAt code pc [42]) : decode code pc = .ok (.aload_n 0, 1) := dk_of ((dk_bind (dk_u1 (h 0 _ rfl))).trans rfl)
theorem dk_43 {code : ByteArray} {pc : Nat} (h : DkAt code pc [43]) : decode code pc = .ok (.aload_n 1, 1) := dk_of ((dk_bind (dk_u1 (h 0 _ rfl))).trans rfl)
theorem dk_44 {code : ByteArray} {pc : Nat} (h : DkAt code pc [44]) : decode code pc = .ok (.aload_n 2, 1) := dk_of ((dk_bind (dk_u1 (h 0 _ rfl))).trans rfl)
theorem dk_45 {code : ByteArray} {pc : Nat} (h : DkAt code pc [45]) : decode code pc = .ok (.aload_n 3, 1) := dk_of ((dk_bind (dk_u1 (h 0 _ rfl))).trans rfl)
theorem dk_46 {code : ByteArray} {pc : Nat} (h : DkAt code pc [46]) : decode code pc = .ok (.iaload, 1) := dk_of ((dk_bind (dk_u1 (h 0 _ rfl))).trans rfl)
theorem dk_50 {code : ByteArray} {pc : Nat} (h : DkAt code pc [50]) : decode code pc = .ok (.aaload, 1) := dk_of ((dk_bind (dk_u1 (h 0 _ rfl))).trans rfl)
theorem dk_54 {code : ByteArray} {pc : Nat} (a : UInt8) (h : DkAt code pc [54, a]) : decode code pc = .ok (.istore a.toNat, 2) := dk_of ((dk_bind (dk_u1 (h 0 _ rfl))).trans ((dk_bind (dk_u1 (h 1 _ rfl))).trans rfl))
theorem dk_58 {code : ByteArray} {pc : Nat} (a : UInt8) (h : DkAt code pc [58, a]) : decode code pc = .ok (.astore a.toNat, 2) := dk_of ((dk_bind (dk_u1 (h 0 _ rfl))).trans ((dk_bind (dk_u1 (h 1 _ rfl))).trans rfl))
theorem dk_60 {code : ByteArray} {pc : Nat} (h : DkAt code pc [60]) : decode code pc = .ok (.istore_n 1, 1) := dk_of ((dk_bind (dk_u1 (h 0 _ rfl))).trans rfl)
theorem dk_61 {code : ByteArray} {pc : Nat} (h : DkAt code pc [61]) : decode code pc = .ok (.istore_n 2, 1) := dk_of ((dk_bind (dk_u1 (h 0 _ rfl))).trans rfl)
theorem dk_62 {code : ByteArray} {pc : Nat} (h : DkAt code pc [62]) : decode code pc = .ok (.istore_n 3, 1) := dk_of ((dk_bind (dk_u1 (h 0 _ rfl))).trans rfl)
theorem dk_76 {code : ByteArray} {pc : Nat} (h : DkAt code pc [76]) : decode code pc = .ok (.astore_n 1, 1) := dk_of ((dk_bind (dk_u1 (h 0 _ rfl))).trans rfl)
theorem dk_77 {code : ByteArray} {pc : Nat} (h : DkAt code pc [77]) : decode code pc = .ok (.astore_n 2, 1) := dk_of ((dk_bind (dk_u1 (h 0 _ rfl))).trans rfl)
theorem dk_78 {code : ByteArray} {pc : Nat} (h : DkAt code pc [78]) : decode code pc = .ok (.astore_n 3, 1) := dk_of ((dk_bind (dk_u1 (h 0 _ rfl))).trans rfl)
theorem dk_79 {code : ByteArray} {pc : Nat} (h : DkAt code pc [79]) : decode code pc = .ok (.iastore, 1) := dk_of ((dk_bind (dk_u1 (h 0 _ rfl))).trans rfl)
theorem dk_83 {code : ByteArray} {pc : Nat} (h : DkAt code pc [83]) : decode code pc = .ok (.aastore, 1) := dk_of ((dk_bind (dk_u1 (h 0 _ rfl))).trans rfl)
theorem dk_89 {code : ByteArray} {pc : Nat} (h : DkAt code pc [89]) : decode code pc = .ok (.dup, 1) := dk_of ((dk_bind (dk_u1 (h 0 _ rfl))).trans rfl)
theorem dk_90 {code : ByteArray} {pc : Nat} (h : DkAt code pc [90]) : decode code pc = .ok (.dup_x1, 1) := dk_of ((dk_bind (dk_u1 (h 0 _ rfl))).trans rfl)
theorem dk_96 {code : ByteArray} {pc : Nat} (h : DkAt code pc [96]) : decode code pc = .ok (.iadd, 1) := dk_of ((dk_bind (dk_u1 (h 0 _ rfl))).trans rfl)
theorem dk_100 {code : ByteArray} {pc : Nat} (h : DkAt code pc [100]) : decode code pc = .ok (.isub, 1) := dk_of ((dk_bind (dk_u1 (h 0 _ rfl))).trans rfl)
theorem dk_104 {code : ByteArray} {pc : Nat} (h : DkAt code pc [104]) : decode code pc = .ok (.imul, 1) := dk_of ((dk_bind (dk_u1 (h 0 _ rfl))).trans rfl)
theorem dk_106 {code : ByteArray} {pc : Nat} (h : DkAt code pc [106]) : decode code pc = .ok (.fmul, 1) := dk_of ((dk_bind (dk_u1 (h 0 _ rfl))).trans rfl)
theorem dk_112 {code : ByteArray} {pc : Nat} (h : DkAt code pc [112]) : decode code pc = .ok (.irem, 1) := dk_of ((dk_bind (dk_u1 (h 0 _ rfl))).trans rfl)
theorem dk_120 {code : ByteArray} {pc : Nat} (h : DkAt code pc [120]) : decode code pc = .ok (.ishl, 1) := dk_of ((dk_bind (dk_u1 (h 0 _ rfl))).trans rfl)
theorem dk_122 {code : ByteArray} {pc : Nat} (h : DkAt code pc [122]) : decode code pc = .ok (.ishr, 1) := dk_of ((dk_bind (dk_u1 (h 0 _ rfl))).trans rfl)
theorem dk_126 {code : ByteArray} {pc : Nat} (h : DkAt code pc [126]) : decode code pc = .ok (.iand, 1) := dk_of ((dk_bind (dk_u1 (h 0 _ rfl))).trans rfl)
theorem dk_128 {code : ByteArray} {pc : Nat} (h : DkAt code pc [128]) : decode code pc = .ok (.ior, 1) := dk_of ((dk_bind (dk_u1 (h 0 _ rfl))).trans rfl)
theorem dk_130 {code : ByteArray} {pc : Nat} (h : DkAt code pc [130]) : decode code pc = .ok (.ixor, 1) := dk_of ((dk_bind (dk_u1 (h 0 _ rfl))).trans rfl)
theorem dk_132 {code : ByteArray} {pc : Nat} (a b : UInt8) (h : DkAt code pc [132, a, b]) : decode code pc = .ok (.iinc a.toNat (Reader.signed 8 b.toNat), 3) := dk_of ((dk_bind (dk_u1 (h 0 _ rfl))).trans ((dk_bind (dk_u1 (h 1 _ rfl))).trans ((dk_bind (dk_map (dk_u1 (h 2 _ rfl)))).trans rfl)))
theorem dk_133 {code : ByteArray} {pc : Nat} (h : DkAt code pc [133]) : decode code pc = .ok (.i2l, 1) := dk_of ((dk_bind (dk_u1 (h 0 _ rfl))).trans rfl)
theorem dk_134 {code : ByteArray} {pc : Nat} (h : DkAt code pc [134]) : decode code pc = .ok (.i2f, 1) := dk_of ((dk_bind (dk_u1 (h 0 _ rfl))).trans rfl)
theorem dk_139 {code : ByteArray} {pc : Nat} (h : DkAt code pc [139]) : decode code pc = .ok (.f2i, 1) := dk_of ((dk_bind (dk_u1 (h 0 _ rfl))).trans rfl)
theorem dk_148 {code : ByteArray} {pc : Nat} (h : DkAt code pc [148]) : decode code pc = .ok (.lcmp, 1) := dk_of ((dk_bind (dk_u1 (h 0 _ rfl))).trans rfl)
theorem dk_149 {code : ByteArray} {pc : Nat} (h : DkAt code pc [149]) : decode code pc = .ok (.fcmp .l, 1) := dk_of ((dk_bind (dk_u1 (h 0 _ rfl))).trans rfl)
theorem dk_150 {code : ByteArray} {pc : Nat} (h : DkAt code pc [150]) : decode code pc = .ok (.fcmp .g, 1) := dk_of ((dk_bind (dk_u1 (h 0 _ rfl))).trans rfl)
theorem dk_153 {code : ByteArray} {pc : Nat} (a b : UInt8) (h : DkAt code pc [153, a, b]) : decode code pc = .ok (.ifCond .eq (Reader.signed 16 (a.toNat * 256 + b.toNat)), 3) := dk_of ((dk_bind (dk_u1 (h 0 _ rfl))).trans ((dk_bind (dk_map (dk_u2 (h 1 _ rfl) (h 2 _ rfl)))).trans rfl))
theorem dk_154 {code : ByteArray} {pc : Nat} (a b : UInt8) (h : DkAt code pc [154, a, b]) : decode code pc = .ok (.ifCond .ne (Reader.signed 16 (a.toNat * 256 + b.toNat)), 3) := dk_of ((dk_bind (dk_u1 (h 0 _ rfl))).trans ((dk_bind (dk_map (dk_u2 (h 1 _ rfl) (h 2 _ rfl)))).trans rfl))
theorem dk_155 {code : ByteArray} {pc : Nat} (a b : UInt8) (h : DkAt code pc [155, a, b]) : decode code pc = .ok (.ifCond .lt (Reader.signed 16 (a.toNat * 256 + b.toNat)), 3) := dk_of ((dk_bind (dk_u1 (h 0 _ rfl))).trans ((dk_bind (dk_map (dk_u2 (h 1 _ rfl) (h 2 _ rfl)))).trans rfl))
theorem dk_156 {code : ByteArray} {pc : Nat} (a b : UInt8) (h : DkAt code pc [156, a, b]) : decode code pc = .ok (.ifCond .ge (Reader.signed 16 (a.toNat * 256 + b.toNat)), 3) := dk_of ((dk_bind (dk_u1 (h 0 _ rfl))).trans ((dk_bind (dk_map (dk_u2 (h 1 _ rfl) (h 2 _ rfl)))).trans rfl))
theorem dk_157 {code : ByteArray} {pc : Nat} (a b : UInt8) (h : DkAt code pc [157, a, b]) : decode code pc = .ok (.ifCond .gt (Reader.signed 16 (a.toNat * 256 + b.toNat)), 3) := dk_of ((dk_bind (dk_u1 (h 0 _ rfl))).trans ((dk_bind (dk_map (dk_u2 (h 1 _ rfl) (h 2 _ rfl)))).trans rfl))
theorem dk_158 {code : ByteArray} {pc : Nat} (a b : UInt8) (h : DkAt code pc [158, a, b]) : decode code pc = .ok (.ifCond .le (Reader.signed 16 (a.toNat * 256 + b.toNat)), 3) := dk_of ((dk_bind (dk_u1 (h 0 _ rfl))).trans ((dk_bind (dk_map (dk_u2 (h 1 _ rfl) (h 2 _ rfl)))).trans rfl))
theorem dk_159 {code : ByteArray} {pc : Nat} (a b : UInt8) (h : DkAt code pc [159, a, b]) : decode code pc = .ok (.if_icmp .eq (Reader.signed 16 (a.toNat * 256 + b.toNat)), 3) := dk_of ((dk_bind (dk_u1 (h 0 _ rfl))).trans ((dk_bind (dk_map (dk_u2 (h 1 _ rfl) (h 2 _ rfl)))).trans rfl))
theorem dk_160 {code : ByteArray} {pc : Nat} (a b : UInt8) (h : DkAt code pc [160, a, b]) : decode code pc = .ok (.if_icmp .ne (Reader.signed 16 (a.toNat * 256 + b.toNat)), 3) := dk_of ((dk_bind (dk_u1 (h 0 _ rfl))).trans ((dk_bind (dk_map (dk_u2 (h 1 _ rfl) (h 2 _ rfl)))).trans rfl))
theorem dk_161 {code : ByteArray} {pc : Nat} (a b : UInt8) (h : DkAt code pc [161, a, b]) : decode code pc = .ok (.if_icmp .lt (Reader.signed 16 (a.toNat * 256 + b.toNat)), 3) := dk_of ((dk_bind (dk_u1 (h 0 _ rfl))).trans ((dk_bind (dk_map (dk_u2 (h 1 _ rfl) (h 2 _ rfl)))).trans rfl))
theorem dk_162 {code : ByteArray} {pc : Nat} (a b : UInt8) (h : DkAt code pc [162, a, b]) : decode code pc = .ok (.if_icmp .ge (Reader.signed 16 (a.toNat * 256 + b.toNat)), 3) := dk_of ((dk_bind (dk_u1 (h 0 _ rfl))).trans ((dk_bind (dk_map (dk_u2 (h 1 _ rfl) (h 2 _ rfl)))).trans rfl))
theorem dk_163 {code : ByteArray} {pc : Nat} (a b : UInt8) (h : DkAt code pc [163, a, b]) : decode code pc = .ok (.if_icmp .gt (Reader.signed 16 (a.toNat * 256 + b.toNat)), 3) := dk_of ((dk_bind (dk_u1 (h 0 _ rfl))).trans ((dk_bind (dk_map (dk_u2 (h 1 _ rfl) (h 2 _ rfl)))).trans rfl))
theorem dk_164 {code : ByteArray} {pc : Nat} (a b : UInt8) (h : DkAt code pc [164, a, b]) : decode code pc = .ok (.if_icmp .le (Reader.signed 16 (a.toNat * 256 + b.toNat)), 3) := dk_of ((dk_bind (dk_u1 (h 0 _ rfl))).trans ((dk_bind (dk_map (dk_u2 (h 1 _ rfl) (h 2 _ rfl)))).trans rfl))
theorem dk_166 {code : ByteArray} {pc : Nat} (a b : UInt8) (h : DkAt code pc [166, a, b]) : decode code pc = .ok (.if_acmp .ne (Reader.signed 16 (a.toNat * 256 + b.toNat)), 3) := dk_of ((dk_bind (dk_u1 (h 0 _ rfl))).trans ((dk_bind (dk_map (dk_u2 (h 1 _ rfl) (h 2 _ rfl)))).trans rfl))
theorem dk_167 {code : ByteArray} {pc : Nat} (a b : UInt8) (h : DkAt code pc [167, a, b]) : decode code pc = .ok (.goto (Reader.signed 16 (a.toNat * 256 + b.toNat)), 3) := dk_of ((dk_bind (dk_u1 (h 0 _ rfl))).trans ((dk_bind (dk_map (dk_u2 (h 1 _ rfl) (h 2 _ rfl)))).trans rfl))
theorem dk_172 {code : ByteArray} {pc : Nat} (h : DkAt code pc [172]) : decode code pc = .ok (.ireturn, 1) := dk_of ((dk_bind (dk_u1 (h 0 _ rfl))).trans rfl)
theorem dk_174 {code : ByteArray} {pc : Nat} (h : DkAt code pc [174]) : decode code pc = .ok (.freturn, 1) := dk_of ((dk_bind (dk_u1 (h 0 _ rfl))).trans rfl)
theorem dk_176 {code : ByteArray} {pc : Nat} (h : DkAt code pc [176]) : decode code pc = .ok (.areturn, 1) := dk_of ((dk_bind (dk_u1 (h 0 _ rfl))).trans rfl)
theorem dk_177 {code : ByteArray} {pc : Nat} (h : DkAt code pc [177]) : decode code pc = .ok (.return_, 1) := dk_of ((dk_bind (dk_u1 (h 0 _ rfl))).trans rfl)
theorem dk_178 {code : ByteArray} {pc : Nat} (a b : UInt8) (h : DkAt code pc [178, a, b]) : decode code pc = .ok (.getstatic (a.toNat * 256 + b.toNat), 3) := dk_of ((dk_bind (dk_u1 (h 0 _ rfl))).trans ((dk_bind (dk_u2 (h 1 _ rfl) (h 2 _ rfl))).trans rfl))
theorem dk_180 {code : ByteArray} {pc : Nat} (a b : UInt8) (h : DkAt code pc [180, a, b]) : decode code pc = .ok (.getfield (a.toNat * 256 + b.toNat), 3) := dk_of ((dk_bind (dk_u1 (h 0 _ rfl))).trans ((dk_bind (dk_u2 (h 1 _ rfl) (h 2 _ rfl))).trans rfl))
theorem dk_181 {code : ByteArray} {pc : Nat} (a b : UInt8) (h : DkAt code pc [181, a, b]) : decode code pc = .ok (.putfield (a.toNat * 256 + b.toNat), 3) := dk_of ((dk_bind (dk_u1 (h 0 _ rfl))).trans ((dk_bind (dk_u2 (h 1 _ rfl) (h 2 _ rfl))).trans rfl))
theorem dk_182 {code : ByteArray} {pc : Nat} (a b : UInt8) (h : DkAt code pc [182, a, b]) : decode code pc = .ok (.invokevirtual (a.toNat * 256 + b.toNat), 3) := dk_of ((dk_bind (dk_u1 (h 0 _ rfl))).trans ((dk_bind (dk_u2 (h 1 _ rfl) (h 2 _ rfl))).trans rfl))
theorem dk_183 {code : ByteArray} {pc : Nat} (a b : UInt8) (h : DkAt code pc [183, a, b]) : decode code pc = .ok (.invokespecial (a.toNat * 256 + b.toNat), 3) := dk_of ((dk_bind (dk_u1 (h 0 _ rfl))).trans ((dk_bind (dk_u2 (h 1 _ rfl) (h 2 _ rfl))).trans rfl))
theorem dk_184 {code : ByteArray} {pc : Nat} (a b : UInt8) (h : DkAt code pc [184, a, b]) : decode code pc = .ok (.invokestatic (a.toNat * 256 + b.toNat), 3) := dk_of ((dk_bind (dk_u1 (h 0 _ rfl))).trans ((dk_bind (dk_u2 (h 1 _ rfl) (h 2 _ rfl))).trans rfl))
theorem dk_187 {code : ByteArray} {pc : Nat} (a b : UInt8) (h : DkAt code pc [187, a, b]) : decode code pc = .ok (.new (a.toNat * 256 + b.toNat), 3) := dk_of ((dk_bind (dk_u1 (h 0 _ rfl))).trans ((dk_bind (dk_u2 (h 1 _ rfl) (h 2 _ rfl))).trans rfl))
theorem dk_188_10 {code : ByteArray} {pc : Nat} (h : DkAt code pc [188, 10]) : decode code pc = .ok (.newarray .int, 2) := dk_of ((dk_bind (dk_u1 (h 0 _ rfl))).trans ((dk_bind (dk_u1 (h 1 _ rfl))).trans rfl))
theorem dk_189 {code : ByteArray} {pc : Nat} (a b : UInt8) (h : DkAt code pc [189, a, b]) : decode code pc = .ok (.anewarray (a.toNat * 256 + b.toNat), 3) := dk_of ((dk_bind (dk_u1 (h 0 _ rfl))).trans ((dk_bind (dk_u2 (h 1 _ rfl) (h 2 _ rfl))).trans rfl))
theorem dk_190 {code : ByteArray} {pc : Nat} (h : DkAt code pc [190]) : decode code pc = .ok (.arraylength, 1) := dk_of ((dk_bind (dk_u1 (h 0 _ rfl))).trans rfl)
theorem dk_191 {code : ByteArray} {pc : Nat} (h : DkAt code pc [191]) : decode code pc = .ok (.athrow, 1) := dk_of ((dk_bind (dk_u1 (h 0 _ rfl))).trans rfl)
theorem dk_192 {code : ByteArray} {pc : Nat} (a b : UInt8) (h : DkAt code pc [192, a, b]) : decode code pc = .ok (.checkcast (a.toNat * 256 + b.toNat), 3) := dk_of ((dk_bind (dk_u1 (h 0 _ rfl))).trans ((dk_bind (dk_u2 (h 1 _ rfl) (h 2 _ rfl))).trans rfl))
theorem dk_193 {code : ByteArray} {pc : Nat} (a b : UInt8) (h : DkAt code pc [193, a, b]) : decode code pc = .ok (.instanceof (a.toNat * 256 + b.toNat), 3) := dk_of ((dk_bind (dk_u1 (h 0 _ rfl))).trans ((dk_bind (dk_u2 (h 1 _ rfl) (h 2 _ rfl))).trans rfl))
theorem dk_198 {code : ByteArray} {pc : Nat} (a b : UInt8) (h : DkAt code pc [198, a, b]) : decode code pc = .ok (.ifnull (Reader.signed 16 (a.toNat * 256 + b.toNat)), 3) := dk_of ((dk_bind (dk_u1 (h 0 _ rfl))).trans ((dk_bind (dk_map (dk_u2 (h 1 _ rfl) (h 2 _ rfl)))).trans rfl))
theorem dk_199 {code : ByteArray} {pc : Nat} (a b : UInt8) (h : DkAt code pc [199, a, b]) : decode code pc = .ok (.ifnonnull (Reader.signed 16 (a.toNat * 256 + b.toNat)), 3) := dk_of ((dk_bind (dk_u1 (h 0 _ rfl))).trans ((dk_bind (dk_map (dk_u2 (h 1 _ rfl) (h 2 _ rfl)))).trans rfl))
end
section
/-! java/util/AbstractCollection -/
set_option maxRecDepth 100000
def RJ0 : String := "java/util/AbstractCollection"
abbrev cJ0_init : ByteArray := prog_15_method_1_code
def yJ0_init : MethodName := ⟨RJ0, "<init>", "()V"⟩
theorem dJ0_init_0 : decode cJ0_init 0 = .ok (.aload_n 0, 1) := by decide +kernel
theorem dJ0_init_1 : decode cJ0_init 1 = .ok (.invokespecial 1, 3) := by decide +kernel
theorem dJ0_init_4 : decode cJ0_init 4 = .ok (.return_, 1) := by decide +kernel
theorem q7 : (Jvm.Cond.initialized "java/util/AbstractCollection") ∈ lw_all := lw_g (lw_at lw_m1 2 rfl) rfl
theorem q51 : (Jvm.Cond.instanceMethod ({ cls := "java/util/AbstractCollection", name := "<init>", desc := "()V" } : Jvm.MethodName)) ∈ lw_all := lw_g (lw_at lw_m1 46 rfl) rfl
theorem q52 : (Jvm.Cond.code ({ cls := "java/util/AbstractCollection", name := "<init>", desc := "()V" } : Jvm.MethodName) prog_15_method_1_code (1 : Nat) (Option.none : Option Jvm.ClassFile.FieldType)) ∈ lw_all := lw_g (lw_at lw_m1 47 rfl) rfl
theorem q53 : (Jvm.Cond.methodLink "java/util/AbstractCollection" (1 : Nat) ({ cls := "java/lang/Object", name := "<init>", desc := "()V" } : Jvm.MethodName)) ∈ lw_all := lw_g (lw_at lw_m1 48 rfl) rfl
/-! java/util/AbstractList -/
set_option maxRecDepth 100000
def RJ1 : String := "java/util/AbstractList"
abbrev cJ1_init : ByteArray := prog_16_method_1_code
def yJ1_init : MethodName := ⟨RJ1, "<init>", "()V"⟩
def dkwJ1_init_0 : List UInt8 := [42, 183, 0, 1, 42, 3, 181, 0, 7, 177]
abbrev dktJ1_init_0 : List UInt8 := dkwJ1_init_0 ++ []
theorem dksJ1_init_0 : cJ1_init.data.toList.drop 0 = dktJ1_init_0 := by decide +kernel
theorem dJ1_init_0 : decode cJ1_init 0 = .ok (.aload_n 0, 1) := dk_42 (dk_at dksJ1_init_0 0 rfl rfl)
theorem dJ1_init_1 : decode cJ1_init 1 = .ok (.invokespecial 1, 3) := dk_183 0 1 (dk_at dksJ1_init_0 1 rfl rfl)
theorem dJ1_init_4 : decode cJ1_init 4 = .ok (.aload_n 0, 1) := dk_42 (dk_at dksJ1_init_0 4 rfl rfl)
theorem dJ1_init_5 : decode cJ1_init 5 = .ok (.iconst 0, 1) := dk_3 (dk_at dksJ1_init_0 5 rfl rfl)
theorem dJ1_init_6 : decode cJ1_init 6 = .ok (.putfield 7, 3) := dk_181 0 7 (dk_at dksJ1_init_0 6 rfl rfl)
theorem dJ1_init_9 : decode cJ1_init 9 = .ok (.return_, 1) := dk_177 (dk_at dksJ1_init_0 9 rfl rfl)
theorem q8 : (Jvm.Cond.initialized "java/util/AbstractList") ∈ lw_all := lw_g (lw_at lw_m1 3 rfl) rfl
theorem q48 : (Jvm.Cond.instanceMethod ({ cls := "java/util/AbstractList", name := "<init>", desc := "()V" } : Jvm.MethodName)) ∈ lw_all := lw_g (lw_at lw_m1 43 rfl) rfl
theorem q49 : (Jvm.Cond.code ({ cls := "java/util/AbstractList", name := "<init>", desc := "()V" } : Jvm.MethodName) prog_16_method_1_code (1 : Nat) (Option.none : Option Jvm.ClassFile.FieldType)) ∈ lw_all := lw_g (lw_at lw_m1 44 rfl) rfl
theorem q50 : (Jvm.Cond.methodLink "java/util/AbstractList" (1 : Nat) ({ cls := "java/util/AbstractCollection", name := "<init>", desc := "()V" } : Jvm.MethodName)) ∈ lw_all := lw_g (lw_at lw_m1 45 rfl) rfl
theorem q59 : (Jvm.Cond.fieldLink "java/util/AbstractList" (7 : Nat) "java/util/AbstractList" "modCount" "I") ∈ lw_all := lw_g (lw_at lw_m1 54 rfl) rfl
theorem q69 : (Jvm.Cond.soleField "java/util/AbstractList" "modCount") ∈ lw_all := lw_g (lw_at lw_m1 64 rfl) rfl
/-! java/util/Vector -/
set_option maxRecDepth 100000
def RJ2 : String := "java/util/Vector"
abbrev cJ2_init : ByteArray := prog_33_method_3_code
def yJ2_init : MethodName := ⟨RJ2, "<init>", "()V"⟩
def dkwJ2_init_0 : List UInt8 := [42, 16, 10, 183, 0, 43, 177]
abbrev dktJ2_init_0 : List UInt8 := dkwJ2_init_0 ++ []
theorem dksJ2_init_0 : cJ2_init.data.toList.drop 0 = dktJ2_init_0 := by decide +kernel
theorem dJ2_init_0 : decode cJ2_init 0 = .ok (.aload_n 0, 1) := dk_42 (dk_at dksJ2_init_0 0 rfl rfl)
theorem dJ2_init_1 : decode cJ2_init 1 = .ok (.bipush 10, 2) := dk_16 10 (dk_at dksJ2_init_0 1 rfl rfl)
theorem dJ2_init_3 : decode cJ2_init 3 = .ok (.invokespecial 43, 3) := dk_183 0 43 (dk_at dksJ2_init_0 3 rfl rfl)
theorem dJ2_init_6 : decode cJ2_init 6 = .ok (.return_, 1) := dk_177 (dk_at dksJ2_init_0 6 rfl rfl)
abbrev cJ2_init_2 : ByteArray := prog_33_method_2_code
def yJ2_init_2 : MethodName := ⟨RJ2, "<init>", "(I)V"⟩
def dkwJ2_init_2_0 : List UInt8 := [42, 27, 3, 183, 0, 40, 177]
abbrev dktJ2_init_2_0 : List UInt8 := dkwJ2_init_2_0 ++ []
theorem dksJ2_init_2_0 : cJ2_init_2.data.toList.drop 0 = dktJ2_init_2_0 := by decide +kernel
theorem dJ2_init_2_0 : decode cJ2_init_2 0 = .ok (.aload_n 0, 1) := dk_42 (dk_at dksJ2_init_2_0 0 rfl rfl)
theorem dJ2_init_2_1 : decode cJ2_init_2 1 = .ok (.iload_n 1, 1) := dk_27 (dk_at dksJ2_init_2_0 1 rfl rfl)
theorem dJ2_init_2_2 : decode cJ2_init_2 2 = .ok (.iconst 0, 1) := dk_3 (dk_at dksJ2_init_2_0 2 rfl rfl)
theorem dJ2_init_2_3 : decode cJ2_init_2 3 = .ok (.invokespecial 40, 3) := dk_183 0 40 (dk_at dksJ2_init_2_0 3 rfl rfl)
theorem dJ2_init_2_6 : decode cJ2_init_2 6 = .ok (.return_, 1) := dk_177 (dk_at dksJ2_init_2_0 6 rfl rfl)
abbrev cJ2_init_3 : ByteArray := prog_33_method_1_code
def yJ2_init_3 : MethodName := ⟨RJ2, "<init>", "(II)V"⟩
def dkwJ2_init_3_2 : List UInt8 := [177]
abbrev dktJ2_init_3_2 : List UInt8 := dkwJ2_init_3_2 ++ []
def dkwJ2_init_3_1 : List UInt8 := [27, 182, 0, 18, 182, 0, 21, 183, 0, 25, 191, 42, 27, 189, 0, 28, 181, 0, 30, 42, 28, 181, 0, 36]
abbrev dktJ2_init_3_1 : List UInt8 := dkwJ2_init_3_1 ++ dktJ2_init_3_2
def dkwJ2_init_3_0 : List UInt8 := [42, 183, 0, 1, 27, 156, 0, 30, 187, 0, 7, 89, 187, 0, 9, 89, 183, 0, 11, 18, 12, 182, 0, 14]
abbrev dktJ2_init_3_0 : List UInt8 := dkwJ2_init_3_0 ++ dktJ2_init_3_1
theorem dksJ2_init_3_0 : cJ2_init_3.data.toList.drop 0 = dktJ2_init_3_0 := by decide +kernel
theorem dksJ2_init_3_1 : cJ2_init_3.data.toList.drop 24 = dktJ2_init_3_1 := dk_seg dksJ2_init_3_0 24 rfl rfl
theorem dksJ2_init_3_2 : cJ2_init_3.data.toList.drop 48 = dktJ2_init_3_2 := dk_seg dksJ2_init_3_1 24 rfl rfl
theorem dJ2_init_3_0 : decode cJ2_init_3 0 = .ok (.aload_n 0, 1) := dk_42 (dk_at dksJ2_init_3_0 0 rfl rfl)
theorem dJ2_init_3_1 : decode cJ2_init_3 1 = .ok (.invokespecial 1, 3) := dk_183 0 1 (dk_at dksJ2_init_3_0 1 rfl rfl)
theorem dJ2_init_3_4 : decode cJ2_init_3 4 = .ok (.iload_n 1, 1) := dk_27 (dk_at dksJ2_init_3_0 4 rfl rfl)
theorem dJ2_init_3_5 : decode cJ2_init_3 5 = .ok (.ifCond .ge 30, 3) := dk_156 0 30 (dk_at dksJ2_init_3_0 5 rfl rfl)
theorem dJ2_init_3_8 : decode cJ2_init_3 8 = .ok (.new 7, 3) := dk_187 0 7 (dk_at dksJ2_init_3_0 8 rfl rfl)
theorem dJ2_init_3_11 : decode cJ2_init_3 11 = .ok (.dup, 1) := dk_89 (dk_at dksJ2_init_3_0 11 rfl rfl)
theorem dJ2_init_3_12 : decode cJ2_init_3 12 = .ok (.new 9, 3) := dk_187 0 9 (dk_at dksJ2_init_3_0 12 rfl rfl)
theorem dJ2_init_3_15 : decode cJ2_init_3 15 = .ok (.dup, 1) := dk_89 (dk_at dksJ2_init_3_0 15 rfl rfl)
theorem dJ2_init_3_16 : decode cJ2_init_3 16 = .ok (.invokespecial 11, 3) := dk_183 0 11 (dk_at dksJ2_init_3_0 16 rfl rfl)
theorem dJ2_init_3_19 : decode cJ2_init_3 19 = .ok (.ldc 12, 2) := dk_18 12 (dk_at dksJ2_init_3_0 19 rfl rfl)
theorem dJ2_init_3_21 : decode cJ2_init_3 21 = .ok (.invokevirtual 14, 3) := dk_182 0 14 (dk_at dksJ2_init_3_0 21 rfl rfl)
theorem dJ2_init_3_24 : decode cJ2_init_3 24 = .ok (.iload_n 1, 1) := dk_27 (dk_at dksJ2_init_3_1 0 rfl rfl)
theorem dJ2_init_3_25 : decode cJ2_init_3 25 = .ok (.invokevirtual 18, 3) := dk_182 0 18 (dk_at dksJ2_init_3_1 1 rfl rfl)
theorem dJ2_init_3_28 : decode cJ2_init_3 28 = .ok (.invokevirtual 21, 3) := dk_182 0 21 (dk_at dksJ2_init_3_1 4 rfl rfl)
theorem dJ2_init_3_31 : decode cJ2_init_3 31 = .ok (.invokespecial 25, 3) := dk_183 0 25 (dk_at dksJ2_init_3_1 7 rfl rfl)
theorem dJ2_init_3_34 : decode cJ2_init_3 34 = .ok (.athrow, 1) := dk_191 (dk_at dksJ2_init_3_1 10 rfl rfl)
theorem dJ2_init_3_35 : decode cJ2_init_3 35 = .ok (.aload_n 0, 1) := dk_42 (dk_at dksJ2_init_3_1 11 rfl rfl)
theorem dJ2_init_3_36 : decode cJ2_init_3 36 = .ok (.iload_n 1, 1) := dk_27 (dk_at dksJ2_init_3_1 12 rfl rfl)
theorem dJ2_init_3_37 : decode cJ2_init_3 37 = .ok (.anewarray 28, 3) := dk_189 0 28 (dk_at dksJ2_init_3_1 13 rfl rfl)
theorem dJ2_init_3_40 : decode cJ2_init_3 40 = .ok (.putfield 30, 3) := dk_181 0 30 (dk_at dksJ2_init_3_1 16 rfl rfl)
theorem dJ2_init_3_43 : decode cJ2_init_3 43 = .ok (.aload_n 0, 1) := dk_42 (dk_at dksJ2_init_3_1 19 rfl rfl)
theorem dJ2_init_3_44 : decode cJ2_init_3 44 = .ok (.iload_n 2, 1) := dk_28 (dk_at dksJ2_init_3_1 20 rfl rfl)
theorem dJ2_init_3_45 : decode cJ2_init_3 45 = .ok (.putfield 36, 3) := dk_181 0 36 (dk_at dksJ2_init_3_1 21 rfl rfl)
theorem dJ2_init_3_48 : decode cJ2_init_3 48 = .ok (.return_, 1) := dk_177 (dk_at dksJ2_init_3_2 0 rfl rfl)
abbrev cJ2_add : ByteArray := prog_33_method_36_code
def yJ2_add : MethodName := ⟨RJ2, "add", "(Ljava/lang/Object;[Ljava/lang/Object;I)V"⟩
def dkwJ2_add_0 : List UInt8 := [29, 44, 190, 160, 0, 8, 42, 182, 0, 123, 77, 44, 29, 43, 83, 42, 29, 4, 96, 181, 0, 52, 177]
abbrev dktJ2_add_0 : List UInt8 := dkwJ2_add_0 ++ []
theorem dksJ2_add_0 : cJ2_add.data.toList.drop 0 = dktJ2_add_0 := by decide +kernel
theorem dJ2_add_0 : decode cJ2_add 0 = .ok (.iload_n 3, 1) := dk_29 (dk_at dksJ2_add_0 0 rfl rfl)
theorem dJ2_add_1 : decode cJ2_add 1 = .ok (.aload_n 2, 1) := dk_44 (dk_at dksJ2_add_0 1 rfl rfl)
theorem dJ2_add_2 : decode cJ2_add 2 = .ok (.arraylength, 1) := dk_190 (dk_at dksJ2_add_0 2 rfl rfl)
theorem dJ2_add_3 : decode cJ2_add 3 = .ok (.if_icmp .ne 8, 3) := dk_160 0 8 (dk_at dksJ2_add_0 3 rfl rfl)
theorem dJ2_add_6 : decode cJ2_add 6 = .ok (.aload_n 0, 1) := dk_42 (dk_at dksJ2_add_0 6 rfl rfl)
theorem dJ2_add_7 : decode cJ2_add 7 = .ok (.invokevirtual 123, 3) := dk_182 0 123 (dk_at dksJ2_add_0 7 rfl rfl)
theorem dJ2_add_10 : decode cJ2_add 10 = .ok (.astore_n 2, 1) := dk_77 (dk_at dksJ2_add_0 10 rfl rfl)
theorem dJ2_add_11 : decode cJ2_add 11 = .ok (.aload_n 2, 1) := dk_44 (dk_at dksJ2_add_0 11 rfl rfl)
theorem dJ2_add_12 : decode cJ2_add 12 = .ok (.iload_n 3, 1) := dk_29 (dk_at dksJ2_add_0 12 rfl rfl)
theorem dJ2_add_13 : decode cJ2_add 13 = .ok (.aload_n 1, 1) := dk_43 (dk_at dksJ2_add_0 13 rfl rfl)
theorem dJ2_add_14 : decode cJ2_add 14 = .ok (.aastore, 1) := dk_83 (dk_at dksJ2_add_0 14 rfl rfl)
theorem dJ2_add_15 : decode cJ2_add 15 = .ok (.aload_n 0, 1) := dk_42 (dk_at dksJ2_add_0 15 rfl rfl)
theorem dJ2_add_16 : decode cJ2_add 16 = .ok (.iload_n 3, 1) := dk_29 (dk_at dksJ2_add_0 16 rfl rfl)
theorem dJ2_add_17 : decode cJ2_add 17 = .ok (.iconst 1, 1) := dk_4 (dk_at dksJ2_add_0 17 rfl rfl)
theorem dJ2_add_18 : decode cJ2_add 18 = .ok (.iadd, 1) := dk_96 (dk_at dksJ2_add_0 18 rfl rfl)
theorem dJ2_add_19 : decode cJ2_add 19 = .ok (.putfield 52, 3) := dk_181 0 52 (dk_at dksJ2_add_0 19 rfl rfl)
theorem dJ2_add_22 : decode cJ2_add 22 = .ok (.return_, 1) := dk_177 (dk_at dksJ2_add_0 22 rfl rfl)
abbrev cJ2_grow : ByteArray := prog_33_method_9_code
def yJ2_grow : MethodName := ⟨RJ2, "grow", "()[Ljava/lang/Object;"⟩
def dkwJ2_grow_0 : List UInt8 := [42, 42, 180, 0, 52, 4, 96, 182, 0, 80, 176]
abbrev dktJ2_grow_0 : List UInt8 := dkwJ2_grow_0 ++ []
theorem dksJ2_grow_0 : cJ2_grow.data.toList.drop 0 = dktJ2_grow_0 := by decide +kernel
theorem dJ2_grow_0 : decode cJ2_grow 0 = .ok (.aload_n 0, 1) := dk_42 (dk_at dksJ2_grow_0 0 rfl rfl)
theorem dJ2_grow_1 : decode cJ2_grow 1 = .ok (.aload_n 0, 1) := dk_42 (dk_at dksJ2_grow_0 1 rfl rfl)
theorem dJ2_grow_2 : decode cJ2_grow 2 = .ok (.getfield 52, 3) := dk_180 0 52 (dk_at dksJ2_grow_0 2 rfl rfl)
theorem dJ2_grow_5 : decode cJ2_grow 5 = .ok (.iconst 1, 1) := dk_4 (dk_at dksJ2_grow_0 5 rfl rfl)
theorem dJ2_grow_6 : decode cJ2_grow 6 = .ok (.iadd, 1) := dk_96 (dk_at dksJ2_grow_0 6 rfl rfl)
theorem dJ2_grow_7 : decode cJ2_grow 7 = .ok (.invokevirtual 80, 3) := dk_182 0 80 (dk_at dksJ2_grow_0 7 rfl rfl)
theorem dJ2_grow_10 : decode cJ2_grow 10 = .ok (.areturn, 1) := dk_176 (dk_at dksJ2_grow_0 10 rfl rfl)
abbrev cJ2_grow_2 : ByteArray := prog_33_method_8_code
def yJ2_grow_2 : MethodName := ⟨RJ2, "grow", "(I)[Ljava/lang/Object;"⟩
def dkwJ2_grow_2_1 : List UInt8 := [28, 184, 0, 84, 62, 42, 42, 180, 0, 30, 29, 184, 0, 77, 90, 181, 0, 30, 176]
abbrev dktJ2_grow_2_1 : List UInt8 := dkwJ2_grow_2_1 ++ []
def dkwJ2_grow_2_0 : List UInt8 := [42, 180, 0, 30, 190, 61, 28, 27, 28, 100, 42, 180, 0, 36, 158, 0, 10, 42, 180, 0, 36, 167, 0, 4]
abbrev dktJ2_grow_2_0 : List UInt8 := dkwJ2_grow_2_0 ++ dktJ2_grow_2_1
theorem dksJ2_grow_2_0 : cJ2_grow_2.data.toList.drop 0 = dktJ2_grow_2_0 := by decide +kernel
theorem dksJ2_grow_2_1 : cJ2_grow_2.data.toList.drop 24 = dktJ2_grow_2_1 := dk_seg dksJ2_grow_2_0 24 rfl rfl
theorem dJ2_grow_2_0 : decode cJ2_grow_2 0 = .ok (.aload_n 0, 1) := dk_42 (dk_at dksJ2_grow_2_0 0 rfl rfl)
theorem dJ2_grow_2_1 : decode cJ2_grow_2 1 = .ok (.getfield 30, 3) := dk_180 0 30 (dk_at dksJ2_grow_2_0 1 rfl rfl)
theorem dJ2_grow_2_4 : decode cJ2_grow_2 4 = .ok (.arraylength, 1) := dk_190 (dk_at dksJ2_grow_2_0 4 rfl rfl)
theorem dJ2_grow_2_5 : decode cJ2_grow_2 5 = .ok (.istore_n 2, 1) := dk_61 (dk_at dksJ2_grow_2_0 5 rfl rfl)
theorem dJ2_grow_2_6 : decode cJ2_grow_2 6 = .ok (.iload_n 2, 1) := dk_28 (dk_at dksJ2_grow_2_0 6 rfl rfl)
theorem dJ2_grow_2_7 : decode cJ2_grow_2 7 = .ok (.iload_n 1, 1) := dk_27 (dk_at dksJ2_grow_2_0 7 rfl rfl)
theorem dJ2_grow_2_8 : decode cJ2_grow_2 8 = .ok (.iload_n 2, 1) := dk_28 (dk_at dksJ2_grow_2_0 8 rfl rfl)
theorem dJ2_grow_2_9 : decode cJ2_grow_2 9 = .ok (.isub, 1) := dk_100 (dk_at dksJ2_grow_2_0 9 rfl rfl)
theorem dJ2_grow_2_10 : decode cJ2_grow_2 10 = .ok (.aload_n 0, 1) := dk_42 (dk_at dksJ2_grow_2_0 10 rfl rfl)
theorem dJ2_grow_2_11 : decode cJ2_grow_2 11 = .ok (.getfield 36, 3) := dk_180 0 36 (dk_at dksJ2_grow_2_0 11 rfl rfl)
theorem dJ2_grow_2_14 : decode cJ2_grow_2 14 = .ok (.ifCond .le 10, 3) := dk_158 0 10 (dk_at dksJ2_grow_2_0 14 rfl rfl)
theorem dJ2_grow_2_17 : decode cJ2_grow_2 17 = .ok (.aload_n 0, 1) := dk_42 (dk_at dksJ2_grow_2_0 17 rfl rfl)
theorem dJ2_grow_2_18 : decode cJ2_grow_2 18 = .ok (.getfield 36, 3) := dk_180 0 36 (dk_at dksJ2_grow_2_0 18 rfl rfl)
theorem dJ2_grow_2_21 : decode cJ2_grow_2 21 = .ok (.goto 4, 3) := dk_167 0 4 (dk_at dksJ2_grow_2_0 21 rfl rfl)
theorem dJ2_grow_2_24 : decode cJ2_grow_2 24 = .ok (.iload_n 2, 1) := dk_28 (dk_at dksJ2_grow_2_1 0 rfl rfl)
theorem dJ2_grow_2_25 : decode cJ2_grow_2 25 = .ok (.invokestatic 84, 3) := dk_184 0 84 (dk_at dksJ2_grow_2_1 1 rfl rfl)
theorem dJ2_grow_2_28 : decode cJ2_grow_2 28 = .ok (.istore_n 3, 1) := dk_62 (dk_at dksJ2_grow_2_1 4 rfl rfl)
theorem dJ2_grow_2_29 : decode cJ2_grow_2 29 = .ok (.aload_n 0, 1) := dk_42 (dk_at dksJ2_grow_2_1 5 rfl rfl)
theorem dJ2_grow_2_30 : decode cJ2_grow_2 30 = .ok (.aload_n 0, 1) := dk_42 (dk_at dksJ2_grow_2_1 6 rfl rfl)
theorem dJ2_grow_2_31 : decode cJ2_grow_2 31 = .ok (.getfield 30, 3) := dk_180 0 30 (dk_at dksJ2_grow_2_1 7 rfl rfl)
theorem dJ2_grow_2_34 : decode cJ2_grow_2 34 = .ok (.iload_n 3, 1) := dk_29 (dk_at dksJ2_grow_2_1 10 rfl rfl)
theorem dJ2_grow_2_35 : decode cJ2_grow_2 35 = .ok (.invokestatic 77, 3) := dk_184 0 77 (dk_at dksJ2_grow_2_1 11 rfl rfl)
theorem dJ2_grow_2_38 : decode cJ2_grow_2 38 = .ok (.dup_x1, 1) := dk_90 (dk_at dksJ2_grow_2_1 14 rfl rfl)
theorem dJ2_grow_2_39 : decode cJ2_grow_2 39 = .ok (.putfield 30, 3) := dk_181 0 30 (dk_at dksJ2_grow_2_1 15 rfl rfl)
theorem dJ2_grow_2_42 : decode cJ2_grow_2 42 = .ok (.areturn, 1) := dk_176 (dk_at dksJ2_grow_2_1 18 rfl rfl)
abbrev cJ2_elementData : ByteArray := prog_33_method_32_code
def yJ2_elementData : MethodName := ⟨RJ2, "elementData", "(I)Ljava/lang/Object;"⟩
def dkwJ2_elementData_0 : List UInt8 := [42, 180, 0, 30, 27, 50, 176]
abbrev dktJ2_elementData_0 : List UInt8 := dkwJ2_elementData_0 ++ []
theorem dksJ2_elementData_0 : cJ2_elementData.data.toList.drop 0 = dktJ2_elementData_0 := by decide +kernel
theorem dJ2_elementData_0 : decode cJ2_elementData 0 = .ok (.aload_n 0, 1) := dk_42 (dk_at dksJ2_elementData_0 0 rfl rfl)
theorem dJ2_elementData_1 : decode cJ2_elementData 1 = .ok (.getfield 30, 3) := dk_180 0 30 (dk_at dksJ2_elementData_0 1 rfl rfl)
theorem dJ2_elementData_4 : decode cJ2_elementData 4 = .ok (.iload_n 1, 1) := dk_27 (dk_at dksJ2_elementData_0 4 rfl rfl)
theorem dJ2_elementData_5 : decode cJ2_elementData 5 = .ok (.aaload, 1) := dk_50 (dk_at dksJ2_elementData_0 5 rfl rfl)
theorem dJ2_elementData_6 : decode cJ2_elementData 6 = .ok (.areturn, 1) := dk_176 (dk_at dksJ2_elementData_0 6 rfl rfl)
abbrev cJ2_indexOf : ByteArray := prog_33_method_16_code
def yJ2_indexOf : MethodName := ⟨RJ2, "indexOf", "(Ljava/lang/Object;)I"⟩
def dkwJ2_indexOf_0 : List UInt8 := [42, 43, 3, 182, 0, 95, 172]
abbrev dktJ2_indexOf_0 : List UInt8 := dkwJ2_indexOf_0 ++ []
theorem dksJ2_indexOf_0 : cJ2_indexOf.data.toList.drop 0 = dktJ2_indexOf_0 := by decide +kernel
theorem dJ2_indexOf_0 : decode cJ2_indexOf 0 = .ok (.aload_n 0, 1) := dk_42 (dk_at dksJ2_indexOf_0 0 rfl rfl)
theorem dJ2_indexOf_1 : decode cJ2_indexOf 1 = .ok (.aload_n 1, 1) := dk_43 (dk_at dksJ2_indexOf_0 1 rfl rfl)
theorem dJ2_indexOf_2 : decode cJ2_indexOf 2 = .ok (.iconst 0, 1) := dk_3 (dk_at dksJ2_indexOf_0 2 rfl rfl)
theorem dJ2_indexOf_3 : decode cJ2_indexOf 3 = .ok (.invokevirtual 95, 3) := dk_182 0 95 (dk_at dksJ2_indexOf_0 3 rfl rfl)
theorem dJ2_indexOf_6 : decode cJ2_indexOf 6 = .ok (.ireturn, 1) := dk_172 (dk_at dksJ2_indexOf_0 6 rfl rfl)
theorem q9 : (Jvm.Cond.initialized "java/util/Vector") ∈ lw_all := lw_g (lw_at lw_m1 4 rfl) rfl
theorem q39 : (Jvm.Cond.instanceMethod ({ cls := "java/util/Vector", name := "<init>", desc := "()V" } : Jvm.MethodName)) ∈ lw_all := lw_g (lw_at lw_m1 34 rfl) rfl
theorem q40 : (Jvm.Cond.code ({ cls := "java/util/Vector", name := "<init>", desc := "()V" } : Jvm.MethodName) prog_33_method_3_code (1 : Nat) (Option.none : Option Jvm.ClassFile.FieldType)) ∈ lw_all := lw_g (lw_at lw_m1 35 rfl) rfl
theorem q41 : (Jvm.Cond.methodLink "java/util/Vector" (43 : Nat) ({ cls := "java/util/Vector", name := "<init>", desc := "(I)V" } : Jvm.MethodName)) ∈ lw_all := lw_g (lw_at lw_m1 36 rfl) rfl
theorem q42 : (Jvm.Cond.instanceMethod ({ cls := "java/util/Vector", name := "<init>", desc := "(I)V" } : Jvm.MethodName)) ∈ lw_all := lw_g (lw_at lw_m1 37 rfl) rfl
theorem q43 : (Jvm.Cond.code ({ cls := "java/util/Vector", name := "<init>", desc := "(I)V" } : Jvm.MethodName) prog_33_method_2_code (2 : Nat) (Option.none : Option Jvm.ClassFile.FieldType)) ∈ lw_all := lw_g (lw_at lw_m1 38 rfl) rfl
theorem q44 : (Jvm.Cond.methodLink "java/util/Vector" (40 : Nat) ({ cls := "java/util/Vector", name := "<init>", desc := "(II)V" } : Jvm.MethodName)) ∈ lw_all := lw_g (lw_at lw_m1 39 rfl) rfl
theorem q45 : (Jvm.Cond.instanceMethod ({ cls := "java/util/Vector", name := "<init>", desc := "(II)V" } : Jvm.MethodName)) ∈ lw_all := lw_g (lw_at lw_m1 40 rfl) rfl
theorem q46 : (Jvm.Cond.code ({ cls := "java/util/Vector", name := "<init>", desc := "(II)V" } : Jvm.MethodName) prog_33_method_1_code (3 : Nat) (Option.none : Option Jvm.ClassFile.FieldType)) ∈ lw_all := lw_g (lw_at lw_m1 41 rfl) rfl
theorem q47 : (Jvm.Cond.methodLink "java/util/Vector" (1 : Nat) ({ cls := "java/util/AbstractList", name := "<init>", desc := "()V" } : Jvm.MethodName)) ∈ lw_all := lw_g (lw_at lw_m1 42 rfl) rfl
theorem q54 : (Jvm.Cond.classLink "java/util/Vector" (28 : Nat) "java/lang/Object") ∈ lw_all := lw_g (lw_at lw_m1 49 rfl) rfl
theorem q56 : (Jvm.Cond.fieldLink "java/util/Vector" (30 : Nat) "java/util/Vector" "elementData" "[Ljava/lang/Object;") ∈ lw_all := lw_g (lw_at lw_m1 51 rfl) rfl
theorem q57 : (Jvm.Cond.fieldLink "java/util/Vector" (52 : Nat) "java/util/Vector" "elementCount" "I") ∈ lw_all := lw_g (lw_at lw_m1 52 rfl) rfl
theorem q58 : (Jvm.Cond.fieldLink "java/util/Vector" (36 : Nat) "java/util/Vector" "capacityIncrement" "I") ∈ lw_all := lw_g (lw_at lw_m1 53 rfl) rfl
theorem q60 : (Jvm.Cond.fieldLink "java/util/Vector" (74 : Nat) "java/util/Vector" "modCount" "I") ∈ lw_all := lw_g (lw_at lw_m1 55 rfl) rfl
theorem q61 : (Jvm.Cond.sameField "java/util/Vector" "java/util/AbstractList" "modCount" "I") ∈ lw_all := lw_g (lw_at lw_m1 56 rfl) rfl
theorem q63 : (Jvm.Cond.soleField "java/util/Vector" "elementData") ∈ lw_all := lw_g (lw_at lw_m1 58 rfl) rfl
theorem q65 : (Jvm.Cond.soleField "java/util/Vector" "elementCount") ∈ lw_all := lw_g (lw_at lw_m1 60 rfl) rfl
theorem q67 : (Jvm.Cond.soleField "java/util/Vector" "capacityIncrement") ∈ lw_all := lw_g (lw_at lw_m1 62 rfl) rfl
theorem q159 : (Jvm.Cond.declares ({ cls := "java/util/Vector", name := "addElement", desc := "(Ljava/lang/Object;)V" } : Jvm.MethodName)) ∈ lw_tbl := lw_at lw_m1 154 rfl
theorem q161 : (Jvm.Cond.instanceMethod ({ cls := "java/util/Vector", name := "addElement", desc := "(Ljava/lang/Object;)V" } : Jvm.MethodName)) ∈ lw_all := lw_g (lw_at lw_m1 156 rfl) rfl
theorem q162 : (Jvm.Cond.codeSync ({ cls := "java/util/Vector", name := "addElement", desc := "(Ljava/lang/Object;)V" } : Jvm.MethodName) prog_33_method_26_code (2 : Nat) (Option.none : Option Jvm.ClassFile.FieldType)) ∈ lw_all := lw_g (lw_at lw_m1 157 rfl) rfl
theorem q163 : (Jvm.Cond.methodLink "java/util/Vector" (125 : Nat) ({ cls := "java/util/Vector", name := "add", desc := "(Ljava/lang/Object;[Ljava/lang/Object;I)V" } : Jvm.MethodName)) ∈ lw_all := lw_g (lw_at lw_m1 158 rfl) rfl
theorem q164 : (Jvm.Cond.privateMethod ({ cls := "java/util/Vector", name := "add", desc := "(Ljava/lang/Object;[Ljava/lang/Object;I)V" } : Jvm.MethodName)) ∈ lw_tbl := lw_at lw_m1 159 rfl
theorem q165 : (Jvm.Cond.instanceMethod ({ cls := "java/util/Vector", name := "add", desc := "(Ljava/lang/Object;[Ljava/lang/Object;I)V" } : Jvm.MethodName)) ∈ lw_all := lw_g (lw_at lw_m1 160 rfl) rfl
theorem q166 : (Jvm.Cond.instantiable "java/util/Vector" (4 : Nat)) ∈ lw_all := lw_g (lw_at lw_m1 161 rfl) rfl
theorem q167 : (Jvm.Cond.code ({ cls := "java/util/Vector", name := "add", desc := "(Ljava/lang/Object;[Ljava/lang/Object;I)V" } : Jvm.MethodName) prog_33_method_36_code (4 : Nat) (Option.none : Option Jvm.ClassFile.FieldType)) ∈ lw_all := lw_g (lw_at lw_m1 162 rfl) rfl
theorem q168 : (Jvm.Cond.methodLink "java/util/Vector" (123 : Nat) ({ cls := "java/util/Vector", name := "grow", desc := "()[Ljava/lang/Object;" } : Jvm.MethodName)) ∈ lw_all := lw_g (lw_at lw_m1 163 rfl) rfl
theorem q169 : (Jvm.Cond.privateMethod ({ cls := "java/util/Vector", name := "grow", desc := "()[Ljava/lang/Object;" } : Jvm.MethodName)) ∈ lw_tbl := lw_at lw_m1 164 rfl
theorem q170 : (Jvm.Cond.instanceMethod ({ cls := "java/util/Vector", name := "grow", desc := "()[Ljava/lang/Object;" } : Jvm.MethodName)) ∈ lw_all := lw_g (lw_at lw_m1 165 rfl) rfl
theorem q171 : (Jvm.Cond.code ({ cls := "java/util/Vector", name := "grow", desc := "()[Ljava/lang/Object;" } : Jvm.MethodName) prog_33_method_9_code (1 : Nat) (Option.some (Jvm.ClassFile.FieldType.array (Jvm.ClassFile.FieldType.object "java/lang/Object")))) ∈ lw_all := lw_g (lw_at lw_m1 166 rfl) rfl
theorem q172 : (Jvm.Cond.methodLink "java/util/Vector" (80 : Nat) ({ cls := "java/util/Vector", name := "grow", desc := "(I)[Ljava/lang/Object;" } : Jvm.MethodName)) ∈ lw_all := lw_g (lw_at lw_m1 167 rfl) rfl
theorem q173 : (Jvm.Cond.privateMethod ({ cls := "java/util/Vector", name := "grow", desc := "(I)[Ljava/lang/Object;" } : Jvm.MethodName)) ∈ lw_tbl := lw_at lw_m1 168 rfl
theorem q174 : (Jvm.Cond.instanceMethod ({ cls := "java/util/Vector", name := "grow", desc := "(I)[Ljava/lang/Object;" } : Jvm.MethodName)) ∈ lw_all := lw_g (lw_at lw_m1 169 rfl) rfl
theorem q175 : (Jvm.Cond.code ({ cls := "java/util/Vector", name := "grow", desc := "(I)[Ljava/lang/Object;" } : Jvm.MethodName) prog_33_method_8_code (4 : Nat) (Option.some (Jvm.ClassFile.FieldType.array (Jvm.ClassFile.FieldType.object "java/lang/Object")))) ∈ lw_all := lw_g (lw_at lw_m1 170 rfl) rfl
theorem q176 : (Jvm.Cond.methodLink "java/util/Vector" (84 : Nat) ({ cls := "jdk/internal/util/ArraysSupport", name := "newLength", desc := "(III)I" } : Jvm.MethodName)) ∈ lw_all := lw_g (lw_at lw_m1 171 rfl) rfl
theorem q186 : (Jvm.Cond.methodLink "java/util/Vector" (77 : Nat) ({ cls := "java/util/Arrays", name := "copyOf", desc := "([Ljava/lang/Object;I)[Ljava/lang/Object;" } : Jvm.MethodName)) ∈ lw_all := lw_g (lw_at lw_m1 181 rfl) rfl
theorem q226 : (Jvm.Cond.declares ({ cls := "java/util/Vector", name := "size", desc := "()I" } : Jvm.MethodName)) ∈ lw_tbl := lw_at lw_m1 221 rfl
theorem q228 : (Jvm.Cond.instanceMethod ({ cls := "java/util/Vector", name := "size", desc := "()I" } : Jvm.MethodName)) ∈ lw_all := lw_g (lw_at lw_m1 223 rfl) rfl
theorem q229 : (Jvm.Cond.codeSync ({ cls := "java/util/Vector", name := "size", desc := "()I" } : Jvm.MethodName) prog_33_method_12_code (1 : Nat) (Option.some Jvm.ClassFile.FieldType.int)) ∈ lw_all := lw_g (lw_at lw_m1 224 rfl) rfl
theorem q236 : (Jvm.Cond.declares ({ cls := "java/util/Vector", name := "elementAt", desc := "(I)Ljava/lang/Object;" } : Jvm.MethodName)) ∈ lw_tbl := lw_at lw_m1 231 rfl
theorem q238 : (Jvm.Cond.instanceMethod ({ cls := "java/util/Vector", name := "elementAt", desc := "(I)Ljava/lang/Object;" } : Jvm.MethodName)) ∈ lw_all := lw_g (lw_at lw_m1 233 rfl) rfl
theorem q239 : (Jvm.Cond.codeSync ({ cls := "java/util/Vector", name := "elementAt", desc := "(I)Ljava/lang/Object;" } : Jvm.MethodName) prog_33_method_20_code (2 : Nat) (Option.some (Jvm.ClassFile.FieldType.object "java/lang/Object"))) ∈ lw_all := lw_g (lw_at lw_m1 234 rfl) rfl
theorem q240 : (Jvm.Cond.methodLink "java/util/Vector" (114 : Nat) ({ cls := "java/util/Vector", name := "elementData", desc := "(I)Ljava/lang/Object;" } : Jvm.MethodName)) ∈ lw_all := lw_g (lw_at lw_m1 235 rfl) rfl
theorem q241 : (Jvm.Cond.instanceMethod ({ cls := "java/util/Vector", name := "elementData", desc := "(I)Ljava/lang/Object;" } : Jvm.MethodName)) ∈ lw_all := lw_g (lw_at lw_m1 236 rfl) rfl
theorem q242 : (Jvm.Cond.sameMethod "java/util/Vector" "java/util/Vector" "elementData" "(I)Ljava/lang/Object;") ∈ lw_all := lw_g (lw_at lw_m1 237 rfl) rfl
theorem q244 : (Jvm.Cond.code ({ cls := "java/util/Vector", name := "elementData", desc := "(I)Ljava/lang/Object;" } : Jvm.MethodName) prog_33_method_32_code (2 : Nat) (Option.some (Jvm.ClassFile.FieldType.object "java/lang/Object"))) ∈ lw_all := lw_g (lw_at lw_m1 239 rfl) rfl
theorem q247 : (Jvm.Cond.declares ({ cls := "java/util/Vector", name := "removeElementAt", desc := "(I)V" } : Jvm.MethodName)) ∈ lw_tbl := lw_at lw_m2 2 rfl
theorem q249 : (Jvm.Cond.instanceMethod ({ cls := "java/util/Vector", name := "removeElementAt", desc := "(I)V" } : Jvm.MethodName)) ∈ lw_all := lw_g (lw_at lw_m2 4 rfl) rfl
theorem q250 : (Jvm.Cond.codeSync ({ cls := "java/util/Vector", name := "removeElementAt", desc := "(I)V" } : Jvm.MethodName) prog_33_method_24_code (3 : Nat) (Option.none : Option Jvm.ClassFile.FieldType)) ∈ lw_all := lw_g (lw_at lw_m2 5 rfl) rfl
theorem q251 : (Jvm.Cond.methodLink "java/util/Vector" (68 : Nat) ({ cls := "java/lang/System", name := "arraycopy", desc := "(Ljava/lang/Object;ILjava/lang/Object;II)V" } : Jvm.MethodName)) ∈ lw_all := lw_g (lw_at lw_m2 6 rfl) rfl
theorem q275 : (Jvm.Cond.declares ({ cls := "java/util/Vector", name := "lastIndexOf", desc := "(Ljava/lang/Object;)I" } : Jvm.MethodName)) ∈ lw_tbl := lw_at lw_m2 30 rfl
theorem q277 : (Jvm.Cond.instanceMethod ({ cls := "java/util/Vector", name := "lastIndexOf", desc := "(Ljava/lang/Object;)I" } : Jvm.MethodName)) ∈ lw_all := lw_g (lw_at lw_m2 32 rfl) rfl
theorem q278 : (Jvm.Cond.codeSync ({ cls := "java/util/Vector", name := "lastIndexOf", desc := "(Ljava/lang/Object;)I" } : Jvm.MethodName) prog_33_method_18_code (2 : Nat) (Option.some Jvm.ClassFile.FieldType.int)) ∈ lw_all := lw_g (lw_at lw_m2 33 rfl) rfl
theorem q279 : (Jvm.Cond.methodLink "java/util/Vector" (103 : Nat) ({ cls := "java/util/Vector", name := "lastIndexOf", desc := "(Ljava/lang/Object;I)I" } : Jvm.MethodName)) ∈ lw_all := lw_g (lw_at lw_m2 34 rfl) rfl
theorem q280 : (Jvm.Cond.instanceMethod ({ cls := "java/util/Vector", name := "lastIndexOf", desc := "(Ljava/lang/Object;I)I" } : Jvm.MethodName)) ∈ lw_all := lw_g (lw_at lw_m2 35 rfl) rfl
theorem q281 : (Jvm.Cond.sameMethod "java/util/Vector" "java/util/Vector" "lastIndexOf" "(Ljava/lang/Object;I)I") ∈ lw_all := lw_g (lw_at lw_m2 36 rfl) rfl
theorem q283 : (Jvm.Cond.codeSync ({ cls := "java/util/Vector", name := "lastIndexOf", desc := "(Ljava/lang/Object;I)I" } : Jvm.MethodName) prog_33_method_19_code (4 : Nat) (Option.some Jvm.ClassFile.FieldType.int)) ∈ lw_all := lw_g (lw_at lw_m2 38 rfl) rfl
theorem q285 : (Jvm.Cond.methodLink "java/util/Vector" (99 : Nat) ({ cls := "java/lang/Object", name := "equals", desc := "(Ljava/lang/Object;)Z" } : Jvm.MethodName)) ∈ lw_all := lw_g (lw_at lw_m2 40 rfl) rfl
theorem q300 : (Jvm.Cond.declares ({ cls := "java/util/Vector", name := "insertElementAt", desc := "(Ljava/lang/Object;I)V" } : Jvm.MethodName)) ∈ lw_tbl := lw_at lw_m2 55 rfl
theorem q302 : (Jvm.Cond.instanceMethod ({ cls := "java/util/Vector", name := "insertElementAt", desc := "(Ljava/lang/Object;I)V" } : Jvm.MethodName)) ∈ lw_all := lw_g (lw_at lw_m2 57 rfl) rfl
theorem q303 : (Jvm.Cond.codeSync ({ cls := "java/util/Vector", name := "insertElementAt", desc := "(Ljava/lang/Object;I)V" } : Jvm.MethodName) prog_33_method_25_code (5 : Nat) (Option.none : Option Jvm.ClassFile.FieldType)) ∈ lw_all := lw_g (lw_at lw_m2 58 rfl) rfl
theorem q315 : (Jvm.Cond.declares ({ cls := "java/util/Vector", name := "removeElement", desc := "(Ljava/lang/Object;)Z" } : Jvm.MethodName)) ∈ lw_tbl := lw_at lw_m2 70 rfl
theorem q317 : (Jvm.Cond.instanceMethod ({ cls := "java/util/Vector", name := "removeElement", desc := "(Ljava/lang/Object;)Z" } : Jvm.MethodName)) ∈ lw_all := lw_g (lw_at lw_m2 72 rfl) rfl
theorem q318 : (Jvm.Cond.codeSync ({ cls := "java/util/Vector", name := "removeElement", desc := "(Ljava/lang/Object;)Z" } : Jvm.MethodName) prog_33_method_27_code (3 : Nat) (Option.some Jvm.ClassFile.FieldType.boolean)) ∈ lw_all := lw_g (lw_at lw_m2 73 rfl) rfl
theorem q319 : (Jvm.Cond.methodLink "java/util/Vector" (129 : Nat) ({ cls := "java/util/Vector", name := "indexOf", desc := "(Ljava/lang/Object;)I" } : Jvm.MethodName)) ∈ lw_all := lw_g (lw_at lw_m2 74 rfl) rfl
theorem q320 : (Jvm.Cond.instanceMethod ({ cls := "java/util/Vector", name := "indexOf", desc := "(Ljava/lang/Object;)I" } : Jvm.MethodName)) ∈ lw_all := lw_g (lw_at lw_m2 75 rfl) rfl
theorem q321 : (Jvm.Cond.sameMethod "java/util/Vector" "java/util/Vector" "indexOf" "(Ljava/lang/Object;)I") ∈ lw_all := lw_g (lw_at lw_m2 76 rfl) rfl
theorem q323 : (Jvm.Cond.code ({ cls := "java/util/Vector", name := "indexOf", desc := "(Ljava/lang/Object;)I" } : Jvm.MethodName) prog_33_method_16_code (2 : Nat) (Option.some Jvm.ClassFile.FieldType.int)) ∈ lw_all := lw_g (lw_at lw_m2 78 rfl) rfl
theorem q324 : (Jvm.Cond.methodLink "java/util/Vector" (95 : Nat) ({ cls := "java/util/Vector", name := "indexOf", desc := "(Ljava/lang/Object;I)I" } : Jvm.MethodName)) ∈ lw_all := lw_g (lw_at lw_m2 79 rfl) rfl
theorem q325 : (Jvm.Cond.instanceMethod ({ cls := "java/util/Vector", name := "indexOf", desc := "(Ljava/lang/Object;I)I" } : Jvm.MethodName)) ∈ lw_all := lw_g (lw_at lw_m2 80 rfl) rfl
theorem q326 : (Jvm.Cond.sameMethod "java/util/Vector" "java/util/Vector" "indexOf" "(Ljava/lang/Object;I)I") ∈ lw_all := lw_g (lw_at lw_m2 81 rfl) rfl
theorem q328 : (Jvm.Cond.codeSync ({ cls := "java/util/Vector", name := "indexOf", desc := "(Ljava/lang/Object;I)I" } : Jvm.MethodName) prog_33_method_17_code (4 : Nat) (Option.some Jvm.ClassFile.FieldType.int)) ∈ lw_all := lw_g (lw_at lw_m2 83 rfl) rfl
theorem q329 : (Jvm.Cond.methodLink "java/util/Vector" (132 : Nat) ({ cls := "java/util/Vector", name := "removeElementAt", desc := "(I)V" } : Jvm.MethodName)) ∈ lw_all := lw_g (lw_at lw_m2 84 rfl) rfl
theorem q520 : (Jvm.Cond.sameMethod "java/util/Vector" "java/util/Vector" "add" "(Ljava/lang/Object;[Ljava/lang/Object;I)V") ∈ lw_all := lw_g (lw_at lw_m3 35 rfl) rfl
theorem q521 : (Jvm.Cond.sameMethod "java/util/Vector" "java/util/Vector" "grow" "()[Ljava/lang/Object;") ∈ lw_all := lw_g (lw_at lw_m3 36 rfl) rfl
theorem q522 : (Jvm.Cond.sameMethod "java/util/Vector" "java/util/Vector" "grow" "(I)[Ljava/lang/Object;") ∈ lw_all := lw_g (lw_at lw_m3 37 rfl) rfl
theorem q523 : (Jvm.Cond.sameMethod "java/util/Vector" "java/util/Vector" "removeElementAt" "(I)V") ∈ lw_all := lw_g (lw_at lw_m3 38 rfl) rfl
theorem q533 : (Jvm.Cond.castable "java/util/Vector" "java/lang/Object") ∈ lw_tbl := lw_at lw_m3 48 rfl
/-! java/util/Stack -/
set_option maxRecDepth 100000
def RJ3 : String := "java/util/Stack"
def TJ3 : u_T := fun k => match k with
  | 0 => ("java/util/Vector", "elementData", "[Ljava/lang/Object;", false)
  | 1 => ("java/util/Vector", "elementCount", "I", false)
  | 2 => ("java/util/Vector", "capacityIncrement", "I", false)
  | _ => ("java/util/AbstractList", "modCount", "I", false)
def tyJ3 : Nat → FieldType := fun k => match k with
  | 0 => .array (.object "java/lang/Object")
  | 1 => .int
  | 2 => .int
  | _ => .int
abbrev wsJ30 : List Cond := u_ws RJ3 TJ3 4
theorem nmJ3 : ∀ a, a < 4 → ∀ b, b < 4 → a ≠ b → (TJ3 a).2.1 ≠ (TJ3 b).2.1 := by decide +kernel
theorem tyJ3_ok : ∀ k, k < 4 → parseFieldDescriptor (TJ3 k).2.2.1 = some (tyJ3 k) := by decide +kernel
abbrev cJ3_init : ByteArray := prog_32_method_1_code
def yJ3_init : MethodName := ⟨RJ3, "<init>", "()V"⟩
theorem dJ3_init_0 : decode cJ3_init 0 = .ok (.aload_n 0, 1) := by decide +kernel
theorem dJ3_init_1 : decode cJ3_init 1 = .ok (.invokespecial 1, 3) := by decide +kernel
theorem dJ3_init_4 : decode cJ3_init 4 = .ok (.return_, 1) := by decide +kernel
abbrev cJ3_push : ByteArray := prog_32_method_2_code
def yJ3_push : MethodName := ⟨RJ3, "push", "(Ljava/lang/Object;)Ljava/lang/Object;"⟩
def dkwJ3_push_0 : List UInt8 := [42, 43, 182, 0, 7, 43, 176]
abbrev dktJ3_push_0 : List UInt8 := dkwJ3_push_0 ++ []
theorem dksJ3_push_0 : cJ3_push.data.toList.drop 0 = dktJ3_push_0 := by decide +kernel
theorem dJ3_push_0 : decode cJ3_push 0 = .ok (.aload_n 0, 1) := dk_42 (dk_at dksJ3_push_0 0 rfl rfl)
theorem dJ3_push_1 : decode cJ3_push 1 = .ok (.aload_n 1, 1) := dk_43 (dk_at dksJ3_push_0 1 rfl rfl)
theorem dJ3_push_2 : decode cJ3_push 2 = .ok (.invokevirtual 7, 3) := dk_182 0 7 (dk_at dksJ3_push_0 2 rfl rfl)
theorem dJ3_push_5 : decode cJ3_push 5 = .ok (.aload_n 1, 1) := dk_43 (dk_at dksJ3_push_0 5 rfl rfl)
theorem dJ3_push_6 : decode cJ3_push 6 = .ok (.areturn, 1) := dk_176 (dk_at dksJ3_push_0 6 rfl rfl)
abbrev cJ3_empty : ByteArray := prog_32_method_5_code
def yJ3_empty : MethodName := ⟨RJ3, "empty", "()Z"⟩
def dkwJ3_empty_0 : List UInt8 := [42, 182, 0, 13, 154, 0, 7, 4, 167, 0, 4, 3, 172]
abbrev dktJ3_empty_0 : List UInt8 := dkwJ3_empty_0 ++ []
theorem dksJ3_empty_0 : cJ3_empty.data.toList.drop 0 = dktJ3_empty_0 := by decide +kernel
theorem dJ3_empty_0 : decode cJ3_empty 0 = .ok (.aload_n 0, 1) := dk_42 (dk_at dksJ3_empty_0 0 rfl rfl)
theorem dJ3_empty_1 : decode cJ3_empty 1 = .ok (.invokevirtual 13, 3) := dk_182 0 13 (dk_at dksJ3_empty_0 1 rfl rfl)
theorem dJ3_empty_4 : decode cJ3_empty 4 = .ok (.ifCond .ne 7, 3) := dk_154 0 7 (dk_at dksJ3_empty_0 4 rfl rfl)
theorem dJ3_empty_7 : decode cJ3_empty 7 = .ok (.iconst 1, 1) := dk_4 (dk_at dksJ3_empty_0 7 rfl rfl)
theorem dJ3_empty_8 : decode cJ3_empty 8 = .ok (.goto 4, 3) := dk_167 0 4 (dk_at dksJ3_empty_0 8 rfl rfl)
theorem dJ3_empty_11 : decode cJ3_empty 11 = .ok (.iconst 0, 1) := dk_3 (dk_at dksJ3_empty_0 11 rfl rfl)
theorem dJ3_empty_12 : decode cJ3_empty 12 = .ok (.ireturn, 1) := dk_172 (dk_at dksJ3_empty_0 12 rfl rfl)
theorem q10 : (Jvm.Cond.initialized "java/util/Stack") ∈ lw_all := lw_g (lw_at lw_m1 5 rfl) rfl
theorem q34 : (Jvm.Cond.instantiable "java/util/Stack" (4 : Nat)) ∈ lw_all := lw_g (lw_at lw_m1 29 rfl) rfl
theorem q36 : (Jvm.Cond.instanceMethod ({ cls := "java/util/Stack", name := "<init>", desc := "()V" } : Jvm.MethodName)) ∈ lw_all := lw_g (lw_at lw_m1 31 rfl) rfl
theorem q37 : (Jvm.Cond.code ({ cls := "java/util/Stack", name := "<init>", desc := "()V" } : Jvm.MethodName) prog_32_method_1_code (1 : Nat) (Option.none : Option Jvm.ClassFile.FieldType)) ∈ lw_all := lw_g (lw_at lw_m1 32 rfl) rfl
theorem q38 : (Jvm.Cond.methodLink "java/util/Stack" (1 : Nat) ({ cls := "java/util/Vector", name := "<init>", desc := "()V" } : Jvm.MethodName)) ∈ lw_all := lw_g (lw_at lw_m1 33 rfl) rfl
theorem q62 : (Jvm.Cond.lays "java/util/Stack" "java/util/Vector" "elementData" "[Ljava/lang/Object;") ∈ lw_all := lw_g (lw_at lw_m1 57 rfl) rfl
theorem q64 : (Jvm.Cond.lays "java/util/Stack" "java/util/Vector" "elementCount" "I") ∈ lw_all := lw_g (lw_at lw_m1 59 rfl) rfl
theorem q66 : (Jvm.Cond.lays "java/util/Stack" "java/util/Vector" "capacityIncrement" "I") ∈ lw_all := lw_g (lw_at lw_m1 61 rfl) rfl
theorem q68 : (Jvm.Cond.lays "java/util/Stack" "java/util/AbstractList" "modCount" "I") ∈ lw_all := lw_g (lw_at lw_m1 63 rfl) rfl
theorem q70 : (Jvm.Cond.superclass "java/util/Stack" "java/util/Vector") ∈ lw_all := lw_g (lw_at lw_m1 65 rfl) rfl
theorem q154 : (Jvm.Cond.instanceMethod ({ cls := "java/util/Stack", name := "push", desc := "(Ljava/lang/Object;)Ljava/lang/Object;" } : Jvm.MethodName)) ∈ lw_all := lw_g (lw_at lw_m1 149 rfl) rfl
theorem q155 : (Jvm.Cond.selects "java/util/Stack" ({ cls := "java/util/Stack", name := "push", desc := "(Ljava/lang/Object;)Ljava/lang/Object;" } : Jvm.MethodName) ({ cls := "java/util/Stack", name := "push", desc := "(Ljava/lang/Object;)Ljava/lang/Object;" } : Jvm.MethodName)) ∈ lw_all := lw_g (lw_at lw_m1 150 rfl) rfl
theorem q156 : (Jvm.Cond.code ({ cls := "java/util/Stack", name := "push", desc := "(Ljava/lang/Object;)Ljava/lang/Object;" } : Jvm.MethodName) prog_32_method_2_code (2 : Nat) (Option.some (Jvm.ClassFile.FieldType.object "java/lang/Object"))) ∈ lw_all := lw_g (lw_at lw_m1 151 rfl) rfl
theorem q157 : (Jvm.Cond.methodLink "java/util/Stack" (7 : Nat) ({ cls := "java/util/Stack", name := "addElement", desc := "(Ljava/lang/Object;)V" } : Jvm.MethodName)) ∈ lw_all := lw_g (lw_at lw_m1 152 rfl) rfl
theorem q158 : (Jvm.Cond.sameMethod "java/util/Stack" "java/util/Vector" "addElement" "(Ljava/lang/Object;)V") ∈ lw_all := lw_g (lw_at lw_m1 153 rfl) rfl
theorem q160 : (Jvm.Cond.selects "java/util/Stack" ({ cls := "java/util/Stack", name := "addElement", desc := "(Ljava/lang/Object;)V" } : Jvm.MethodName) ({ cls := "java/util/Vector", name := "addElement", desc := "(Ljava/lang/Object;)V" } : Jvm.MethodName)) ∈ lw_all := lw_g (lw_at lw_m1 155 rfl) rfl
theorem q198 : (Jvm.Cond.selects "java/util/Stack" ({ cls := "java/lang/Object", name := "getClass", desc := "()Ljava/lang/Class;" } : Jvm.MethodName) ({ cls := "java/lang/Object", name := "getClass", desc := "()Ljava/lang/Class;" } : Jvm.MethodName)) ∈ lw_all := lw_g (lw_at lw_m1 193 rfl) rfl
theorem q221 : (Jvm.Cond.instanceMethod ({ cls := "java/util/Stack", name := "pop", desc := "()Ljava/lang/Object;" } : Jvm.MethodName)) ∈ lw_all := lw_g (lw_at lw_m1 216 rfl) rfl
theorem q222 : (Jvm.Cond.selects "java/util/Stack" ({ cls := "java/util/Stack", name := "pop", desc := "()Ljava/lang/Object;" } : Jvm.MethodName) ({ cls := "java/util/Stack", name := "pop", desc := "()Ljava/lang/Object;" } : Jvm.MethodName)) ∈ lw_all := lw_g (lw_at lw_m1 217 rfl) rfl
theorem q223 : (Jvm.Cond.codeSync ({ cls := "java/util/Stack", name := "pop", desc := "()Ljava/lang/Object;" } : Jvm.MethodName) prog_32_method_3_code (3 : Nat) (Option.some (Jvm.ClassFile.FieldType.object "java/lang/Object"))) ∈ lw_all := lw_g (lw_at lw_m1 218 rfl) rfl
theorem q224 : (Jvm.Cond.methodLink "java/util/Stack" (13 : Nat) ({ cls := "java/util/Stack", name := "size", desc := "()I" } : Jvm.MethodName)) ∈ lw_all := lw_g (lw_at lw_m1 219 rfl) rfl
theorem q225 : (Jvm.Cond.sameMethod "java/util/Stack" "java/util/Vector" "size" "()I") ∈ lw_all := lw_g (lw_at lw_m1 220 rfl) rfl
theorem q227 : (Jvm.Cond.selects "java/util/Stack" ({ cls := "java/util/Stack", name := "size", desc := "()I" } : Jvm.MethodName) ({ cls := "java/util/Vector", name := "size", desc := "()I" } : Jvm.MethodName)) ∈ lw_all := lw_g (lw_at lw_m1 222 rfl) rfl
theorem q230 : (Jvm.Cond.methodLink "java/util/Stack" (17 : Nat) ({ cls := "java/util/Stack", name := "peek", desc := "()Ljava/lang/Object;" } : Jvm.MethodName)) ∈ lw_all := lw_g (lw_at lw_m1 225 rfl) rfl
theorem q231 : (Jvm.Cond.instanceMethod ({ cls := "java/util/Stack", name := "peek", desc := "()Ljava/lang/Object;" } : Jvm.MethodName)) ∈ lw_all := lw_g (lw_at lw_m1 226 rfl) rfl
theorem q232 : (Jvm.Cond.selects "java/util/Stack" ({ cls := "java/util/Stack", name := "peek", desc := "()Ljava/lang/Object;" } : Jvm.MethodName) ({ cls := "java/util/Stack", name := "peek", desc := "()Ljava/lang/Object;" } : Jvm.MethodName)) ∈ lw_all := lw_g (lw_at lw_m1 227 rfl) rfl
theorem q233 : (Jvm.Cond.codeSync ({ cls := "java/util/Stack", name := "peek", desc := "()Ljava/lang/Object;" } : Jvm.MethodName) prog_32_method_4_code (2 : Nat) (Option.some (Jvm.ClassFile.FieldType.object "java/lang/Object"))) ∈ lw_all := lw_g (lw_at lw_m1 228 rfl) rfl
theorem q234 : (Jvm.Cond.methodLink "java/util/Stack" (28 : Nat) ({ cls := "java/util/Stack", name := "elementAt", desc := "(I)Ljava/lang/Object;" } : Jvm.MethodName)) ∈ lw_all := lw_g (lw_at lw_m1 229 rfl) rfl
theorem q235 : (Jvm.Cond.sameMethod "java/util/Stack" "java/util/Vector" "elementAt" "(I)Ljava/lang/Object;") ∈ lw_all := lw_g (lw_at lw_m1 230 rfl) rfl
theorem q237 : (Jvm.Cond.selects "java/util/Stack" ({ cls := "java/util/Stack", name := "elementAt", desc := "(I)Ljava/lang/Object;" } : Jvm.MethodName) ({ cls := "java/util/Vector", name := "elementAt", desc := "(I)Ljava/lang/Object;" } : Jvm.MethodName)) ∈ lw_all := lw_g (lw_at lw_m1 232 rfl) rfl
theorem q243 : (Jvm.Cond.selects "java/util/Stack" ({ cls := "java/util/Vector", name := "elementData", desc := "(I)Ljava/lang/Object;" } : Jvm.MethodName) ({ cls := "java/util/Vector", name := "elementData", desc := "(I)Ljava/lang/Object;" } : Jvm.MethodName)) ∈ lw_all := lw_g (lw_at lw_m1 238 rfl) rfl
theorem q245 : (Jvm.Cond.methodLink "java/util/Stack" (21 : Nat) ({ cls := "java/util/Stack", name := "removeElementAt", desc := "(I)V" } : Jvm.MethodName)) ∈ lw_all := lw_g (lw_at lw_m2 0 rfl) rfl
theorem q246 : (Jvm.Cond.sameMethod "java/util/Stack" "java/util/Vector" "removeElementAt" "(I)V") ∈ lw_all := lw_g (lw_at lw_m2 1 rfl) rfl
theorem q248 : (Jvm.Cond.selects "java/util/Stack" ({ cls := "java/util/Stack", name := "removeElementAt", desc := "(I)V" } : Jvm.MethodName) ({ cls := "java/util/Vector", name := "removeElementAt", desc := "(I)V" } : Jvm.MethodName)) ∈ lw_all := lw_g (lw_at lw_m2 3 rfl) rfl
theorem q262 : (Jvm.Cond.instanceMethod ({ cls := "java/util/Stack", name := "empty", desc := "()Z" } : Jvm.MethodName)) ∈ lw_all := lw_g (lw_at lw_m2 17 rfl) rfl
theorem q263 : (Jvm.Cond.selects "java/util/Stack" ({ cls := "java/util/Stack", name := "empty", desc := "()Z" } : Jvm.MethodName) ({ cls := "java/util/Stack", name := "empty", desc := "()Z" } : Jvm.MethodName)) ∈ lw_all := lw_g (lw_at lw_m2 18 rfl) rfl
theorem q264 : (Jvm.Cond.code ({ cls := "java/util/Stack", name := "empty", desc := "()Z" } : Jvm.MethodName) prog_32_method_5_code (1 : Nat) (Option.some Jvm.ClassFile.FieldType.boolean)) ∈ lw_all := lw_g (lw_at lw_m2 19 rfl) rfl
theorem q270 : (Jvm.Cond.instanceMethod ({ cls := "java/util/Stack", name := "search", desc := "(Ljava/lang/Object;)I" } : Jvm.MethodName)) ∈ lw_all := lw_g (lw_at lw_m2 25 rfl) rfl
theorem q271 : (Jvm.Cond.selects "java/util/Stack" ({ cls := "java/util/Stack", name := "search", desc := "(Ljava/lang/Object;)I" } : Jvm.MethodName) ({ cls := "java/util/Stack", name := "search", desc := "(Ljava/lang/Object;)I" } : Jvm.MethodName)) ∈ lw_all := lw_g (lw_at lw_m2 26 rfl) rfl
theorem q272 : (Jvm.Cond.codeSync ({ cls := "java/util/Stack", name := "search", desc := "(Ljava/lang/Object;)I" } : Jvm.MethodName) prog_32_method_6_code (3 : Nat) (Option.some Jvm.ClassFile.FieldType.int)) ∈ lw_all := lw_g (lw_at lw_m2 27 rfl) rfl
theorem q273 : (Jvm.Cond.methodLink "java/util/Stack" (32 : Nat) ({ cls := "java/util/Stack", name := "lastIndexOf", desc := "(Ljava/lang/Object;)I" } : Jvm.MethodName)) ∈ lw_all := lw_g (lw_at lw_m2 28 rfl) rfl
theorem q274 : (Jvm.Cond.sameMethod "java/util/Stack" "java/util/Vector" "lastIndexOf" "(Ljava/lang/Object;)I") ∈ lw_all := lw_g (lw_at lw_m2 29 rfl) rfl
theorem q276 : (Jvm.Cond.selects "java/util/Stack" ({ cls := "java/util/Stack", name := "lastIndexOf", desc := "(Ljava/lang/Object;)I" } : Jvm.MethodName) ({ cls := "java/util/Vector", name := "lastIndexOf", desc := "(Ljava/lang/Object;)I" } : Jvm.MethodName)) ∈ lw_all := lw_g (lw_at lw_m2 31 rfl) rfl
theorem q282 : (Jvm.Cond.selects "java/util/Stack" ({ cls := "java/util/Vector", name := "lastIndexOf", desc := "(Ljava/lang/Object;I)I" } : Jvm.MethodName) ({ cls := "java/util/Vector", name := "lastIndexOf", desc := "(Ljava/lang/Object;I)I" } : Jvm.MethodName)) ∈ lw_all := lw_g (lw_at lw_m2 37 rfl) rfl
theorem q299 : (Jvm.Cond.sameMethod "java/util/Stack" "java/util/Vector" "insertElementAt" "(Ljava/lang/Object;I)V") ∈ lw_all := lw_g (lw_at lw_m2 54 rfl) rfl
theorem q301 : (Jvm.Cond.selects "java/util/Stack" ({ cls := "java/util/Stack", name := "insertElementAt", desc := "(Ljava/lang/Object;I)V" } : Jvm.MethodName) ({ cls := "java/util/Vector", name := "insertElementAt", desc := "(Ljava/lang/Object;I)V" } : Jvm.MethodName)) ∈ lw_all := lw_g (lw_at lw_m2 56 rfl) rfl
theorem q314 : (Jvm.Cond.sameMethod "java/util/Stack" "java/util/Vector" "removeElement" "(Ljava/lang/Object;)Z") ∈ lw_all := lw_g (lw_at lw_m2 69 rfl) rfl
theorem q316 : (Jvm.Cond.selects "java/util/Stack" ({ cls := "java/util/Stack", name := "removeElement", desc := "(Ljava/lang/Object;)Z" } : Jvm.MethodName) ({ cls := "java/util/Vector", name := "removeElement", desc := "(Ljava/lang/Object;)Z" } : Jvm.MethodName)) ∈ lw_all := lw_g (lw_at lw_m2 71 rfl) rfl
theorem q322 : (Jvm.Cond.selects "java/util/Stack" ({ cls := "java/util/Vector", name := "indexOf", desc := "(Ljava/lang/Object;)I" } : Jvm.MethodName) ({ cls := "java/util/Vector", name := "indexOf", desc := "(Ljava/lang/Object;)I" } : Jvm.MethodName)) ∈ lw_all := lw_g (lw_at lw_m2 77 rfl) rfl
theorem q327 : (Jvm.Cond.selects "java/util/Stack" ({ cls := "java/util/Vector", name := "indexOf", desc := "(Ljava/lang/Object;I)I" } : Jvm.MethodName) ({ cls := "java/util/Vector", name := "indexOf", desc := "(Ljava/lang/Object;I)I" } : Jvm.MethodName)) ∈ lw_all := lw_g (lw_at lw_m2 82 rfl) rfl
theorem q524 : (Jvm.Cond.selects "java/util/Stack" ({ cls := "java/util/Vector", name := "removeElementAt", desc := "(I)V" } : Jvm.MethodName) ({ cls := "java/util/Vector", name := "removeElementAt", desc := "(I)V" } : Jvm.MethodName)) ∈ lw_all := lw_g (lw_at lw_m3 39 rfl) rfl
theorem q528 : (Jvm.Cond.castable "java/util/Stack" "java/lang/Object") ∈ lw_tbl := lw_at lw_m3 43 rfl
theorem in_J3 : ∀ w ∈ wsJ30, w ∈ lw_all := lw_in wsJ30 [62, 64, 66, 68] (by decide +kernel) (by decide +kernel)
/-! java/util/Dictionary -/
set_option maxRecDepth 100000
def RJ4 : String := "java/util/Dictionary"
abbrev cJ4_init : ByteArray := prog_21_method_1_code
def yJ4_init : MethodName := ⟨RJ4, "<init>", "()V"⟩
theorem dJ4_init_0 : decode cJ4_init 0 = .ok (.aload_n 0, 1) := by decide +kernel
theorem dJ4_init_1 : decode cJ4_init 1 = .ok (.invokespecial 1, 3) := by decide +kernel
theorem dJ4_init_4 : decode cJ4_init 4 = .ok (.return_, 1) := by decide +kernel
theorem q11 : (Jvm.Cond.initialized "java/util/Dictionary") ∈ lw_all := lw_g (lw_at lw_m1 6 rfl) rfl
theorem q81 : (Jvm.Cond.instanceMethod ({ cls := "java/util/Dictionary", name := "<init>", desc := "()V" } : Jvm.MethodName)) ∈ lw_all := lw_g (lw_at lw_m1 76 rfl) rfl
theorem q82 : (Jvm.Cond.code ({ cls := "java/util/Dictionary", name := "<init>", desc := "()V" } : Jvm.MethodName) prog_21_method_1_code (1 : Nat) (Option.none : Option Jvm.ClassFile.FieldType)) ∈ lw_all := lw_g (lw_at lw_m1 77 rfl) rfl
theorem q83 : (Jvm.Cond.methodLink "java/util/Dictionary" (1 : Nat) ({ cls := "java/lang/Object", name := "<init>", desc := "()V" } : Jvm.MethodName)) ∈ lw_all := lw_g (lw_at lw_m1 78 rfl) rfl
/-! java/lang/Number -/
set_option maxRecDepth 100000
def RJ6 : String := "java/lang/Number"
abbrev cJ6_init : ByteArray := prog_11_method_1_code
def yJ6_init : MethodName := ⟨RJ6, "<init>", "()V"⟩
theorem dJ6_init_0 : decode cJ6_init 0 = .ok (.aload_n 0, 1) := by decide +kernel
theorem dJ6_init_1 : decode cJ6_init 1 = .ok (.invokespecial 1, 3) := by decide +kernel
theorem dJ6_init_4 : decode cJ6_init 4 = .ok (.return_, 1) := by decide +kernel
theorem q13 : (Jvm.Cond.initialized "java/lang/Number") ∈ lw_all := lw_g (lw_at lw_m1 8 rfl) rfl
theorem q146 : (Jvm.Cond.instanceMethod ({ cls := "java/lang/Number", name := "<init>", desc := "()V" } : Jvm.MethodName)) ∈ lw_all := lw_g (lw_at lw_m1 141 rfl) rfl
theorem q147 : (Jvm.Cond.code ({ cls := "java/lang/Number", name := "<init>", desc := "()V" } : Jvm.MethodName) prog_11_method_1_code (1 : Nat) (Option.none : Option Jvm.ClassFile.FieldType)) ∈ lw_all := lw_g (lw_at lw_m1 142 rfl) rfl
theorem q148 : (Jvm.Cond.methodLink "java/lang/Number" (1 : Nat) ({ cls := "java/lang/Object", name := "<init>", desc := "()V" } : Jvm.MethodName)) ∈ lw_all := lw_g (lw_at lw_m1 143 rfl) rfl
/-! java/lang/Float -/
set_option maxRecDepth 100000
def RJ7 : String := "java/lang/Float"
abbrev cJ7_isNaN : ByteArray := prog_6_method_6_code
def yJ7_isNaN : MethodName := ⟨RJ7, "isNaN", "(F)Z"⟩
def dkwJ7_isNaN_0 : List UInt8 := [34, 34, 149, 153, 0, 7, 4, 167, 0, 4, 3, 172]
abbrev dktJ7_isNaN_0 : List UInt8 := dkwJ7_isNaN_0 ++ []
theorem dksJ7_isNaN_0 : cJ7_isNaN.data.toList.drop 0 = dktJ7_isNaN_0 := by decide +kernel
theorem dJ7_isNaN_0 : decode cJ7_isNaN 0 = .ok (.fload_n 0, 1) := dk_34 (dk_at dksJ7_isNaN_0 0 rfl rfl)
theorem dJ7_isNaN_1 : decode cJ7_isNaN 1 = .ok (.fload_n 0, 1) := dk_34 (dk_at dksJ7_isNaN_0 1 rfl rfl)
theorem dJ7_isNaN_2 : decode cJ7_isNaN 2 = .ok (.fcmp .l, 1) := dk_149 (dk_at dksJ7_isNaN_0 2 rfl rfl)
theorem dJ7_isNaN_3 : decode cJ7_isNaN 3 = .ok (.ifCond .eq 7, 3) := dk_153 0 7 (dk_at dksJ7_isNaN_0 3 rfl rfl)
theorem dJ7_isNaN_6 : decode cJ7_isNaN 6 = .ok (.iconst 1, 1) := dk_4 (dk_at dksJ7_isNaN_0 6 rfl rfl)
theorem dJ7_isNaN_7 : decode cJ7_isNaN 7 = .ok (.goto 4, 3) := dk_167 0 4 (dk_at dksJ7_isNaN_0 7 rfl rfl)
theorem dJ7_isNaN_10 : decode cJ7_isNaN 10 = .ok (.iconst 0, 1) := dk_3 (dk_at dksJ7_isNaN_0 10 rfl rfl)
theorem dJ7_isNaN_11 : decode cJ7_isNaN 11 = .ok (.ireturn, 1) := dk_172 (dk_at dksJ7_isNaN_0 11 rfl rfl)
theorem q14 : (Jvm.Cond.initialized "java/lang/Float") ∈ lw_all := lw_g (lw_at lw_m1 9 rfl) rfl
theorem q85 : (Jvm.Cond.static ({ cls := "java/lang/Float", name := "isNaN", desc := "(F)Z" } : Jvm.MethodName)) ∈ lw_all := lw_g (lw_at lw_m1 80 rfl) rfl
theorem q86 : (Jvm.Cond.code ({ cls := "java/lang/Float", name := "isNaN", desc := "(F)Z" } : Jvm.MethodName) prog_6_method_6_code (1 : Nat) (Option.some Jvm.ClassFile.FieldType.boolean)) ∈ lw_all := lw_g (lw_at lw_m1 81 rfl) rfl
theorem q94 : (Jvm.Cond.static ({ cls := "java/lang/Float", name := "floatToRawIntBits", desc := "(F)I" } : Jvm.MethodName)) ∈ lw_all := lw_g (lw_at lw_m1 89 rfl) rfl
theorem q95 : (Jvm.Cond.native ({ cls := "java/lang/Float", name := "floatToRawIntBits", desc := "(F)I" } : Jvm.MethodName)) ∈ lw_all := lw_g (lw_at lw_m1 90 rfl) rfl
/-! java/lang/Math -/
set_option maxRecDepth 100000
def RJ8 : String := "java/lang/Math"
abbrev cJ8_min : ByteArray := prog_10_method_71_code
def yJ8_min : MethodName := ⟨RJ8, "min", "(FF)F"⟩
def dkwJ8_min_1 : List UInt8 := [133, 178, 0, 170, 148, 154, 0, 5, 35, 174, 34, 35, 150, 157, 0, 7, 34, 167, 0, 4, 35, 174]
abbrev dktJ8_min_1 : List UInt8 := dkwJ8_min_1 ++ []
def dkwJ8_min_0 : List UInt8 := [34, 34, 149, 153, 0, 5, 34, 174, 34, 11, 149, 154, 0, 23, 35, 11, 149, 154, 0, 17, 35, 184, 0, 68]
abbrev dktJ8_min_0 : List UInt8 := dkwJ8_min_0 ++ dktJ8_min_1
theorem dksJ8_min_0 : cJ8_min.data.toList.drop 0 = dktJ8_min_0 := by decide +kernel
theorem dksJ8_min_1 : cJ8_min.data.toList.drop 24 = dktJ8_min_1 := dk_seg dksJ8_min_0 24 rfl rfl
theorem dJ8_min_0 : decode cJ8_min 0 = .ok (.fload_n 0, 1) := dk_34 (dk_at dksJ8_min_0 0 rfl rfl)
theorem dJ8_min_1 : decode cJ8_min 1 = .ok (.fload_n 0, 1) := dk_34 (dk_at dksJ8_min_0 1 rfl rfl)
theorem dJ8_min_2 : decode cJ8_min 2 = .ok (.fcmp .l, 1) := dk_149 (dk_at dksJ8_min_0 2 rfl rfl)
theorem dJ8_min_3 : decode cJ8_min 3 = .ok (.ifCond .eq 5, 3) := dk_153 0 5 (dk_at dksJ8_min_0 3 rfl rfl)
theorem dJ8_min_6 : decode cJ8_min 6 = .ok (.fload_n 0, 1) := dk_34 (dk_at dksJ8_min_0 6 rfl rfl)
theorem dJ8_min_7 : decode cJ8_min 7 = .ok (.freturn, 1) := dk_174 (dk_at dksJ8_min_0 7 rfl rfl)
theorem dJ8_min_8 : decode cJ8_min 8 = .ok (.fload_n 0, 1) := dk_34 (dk_at dksJ8_min_0 8 rfl rfl)
theorem dJ8_min_9 : decode cJ8_min 9 = .ok (.fconst 0, 1) := dk_11 (dk_at dksJ8_min_0 9 rfl rfl)
theorem dJ8_min_10 : decode cJ8_min 10 = .ok (.fcmp .l, 1) := dk_149 (dk_at dksJ8_min_0 10 rfl rfl)
theorem dJ8_min_11 : decode cJ8_min 11 = .ok (.ifCond .ne 23, 3) := dk_154 0 23 (dk_at dksJ8_min_0 11 rfl rfl)
theorem dJ8_min_14 : decode cJ8_min 14 = .ok (.fload_n 1, 1) := dk_35 (dk_at dksJ8_min_0 14 rfl rfl)
theorem dJ8_min_15 : decode cJ8_min 15 = .ok (.fconst 0, 1) := dk_11 (dk_at dksJ8_min_0 15 rfl rfl)
theorem dJ8_min_16 : decode cJ8_min 16 = .ok (.fcmp .l, 1) := dk_149 (dk_at dksJ8_min_0 16 rfl rfl)
theorem dJ8_min_17 : decode cJ8_min 17 = .ok (.ifCond .ne 17, 3) := dk_154 0 17 (dk_at dksJ8_min_0 17 rfl rfl)
theorem dJ8_min_20 : decode cJ8_min 20 = .ok (.fload_n 1, 1) := dk_35 (dk_at dksJ8_min_0 20 rfl rfl)
theorem dJ8_min_21 : decode cJ8_min 21 = .ok (.invokestatic 68, 3) := dk_184 0 68 (dk_at dksJ8_min_0 21 rfl rfl)
theorem dJ8_min_24 : decode cJ8_min 24 = .ok (.i2l, 1) := dk_133 (dk_at dksJ8_min_1 0 rfl rfl)
theorem dJ8_min_25 : decode cJ8_min 25 = .ok (.getstatic 170, 3) := dk_178 0 170 (dk_at dksJ8_min_1 1 rfl rfl)
theorem dJ8_min_28 : decode cJ8_min 28 = .ok (.lcmp, 1) := dk_148 (dk_at dksJ8_min_1 4 rfl rfl)
theorem dJ8_min_29 : decode cJ8_min 29 = .ok (.ifCond .ne 5, 3) := dk_154 0 5 (dk_at dksJ8_min_1 5 rfl rfl)
theorem dJ8_min_32 : decode cJ8_min 32 = .ok (.fload_n 1, 1) := dk_35 (dk_at dksJ8_min_1 8 rfl rfl)
theorem dJ8_min_33 : decode cJ8_min 33 = .ok (.freturn, 1) := dk_174 (dk_at dksJ8_min_1 9 rfl rfl)
theorem dJ8_min_34 : decode cJ8_min 34 = .ok (.fload_n 0, 1) := dk_34 (dk_at dksJ8_min_1 10 rfl rfl)
theorem dJ8_min_35 : decode cJ8_min 35 = .ok (.fload_n 1, 1) := dk_35 (dk_at dksJ8_min_1 11 rfl rfl)
theorem dJ8_min_36 : decode cJ8_min 36 = .ok (.fcmp .g, 1) := dk_150 (dk_at dksJ8_min_1 12 rfl rfl)
theorem dJ8_min_37 : decode cJ8_min 37 = .ok (.ifCond .gt 7, 3) := dk_157 0 7 (dk_at dksJ8_min_1 13 rfl rfl)
theorem dJ8_min_40 : decode cJ8_min 40 = .ok (.fload_n 0, 1) := dk_34 (dk_at dksJ8_min_1 16 rfl rfl)
theorem dJ8_min_41 : decode cJ8_min 41 = .ok (.goto 4, 3) := dk_167 0 4 (dk_at dksJ8_min_1 17 rfl rfl)
theorem dJ8_min_44 : decode cJ8_min 44 = .ok (.fload_n 1, 1) := dk_35 (dk_at dksJ8_min_1 20 rfl rfl)
theorem dJ8_min_45 : decode cJ8_min 45 = .ok (.freturn, 1) := dk_174 (dk_at dksJ8_min_1 21 rfl rfl)
abbrev cJ8_max : ByteArray := prog_10_method_65_code
def yJ8_max : MethodName := ⟨RJ8, "max", "(II)I"⟩
def dkwJ8_max_0 : List UInt8 := [26, 27, 161, 0, 7, 26, 167, 0, 4, 27, 172]
abbrev dktJ8_max_0 : List UInt8 := dkwJ8_max_0 ++ []
theorem dksJ8_max_0 : cJ8_max.data.toList.drop 0 = dktJ8_max_0 := by decide +kernel
theorem dJ8_max_0 : decode cJ8_max 0 = .ok (.iload_n 0, 1) := dk_26 (dk_at dksJ8_max_0 0 rfl rfl)
theorem dJ8_max_1 : decode cJ8_max 1 = .ok (.iload_n 1, 1) := dk_27 (dk_at dksJ8_max_0 1 rfl rfl)
theorem dJ8_max_2 : decode cJ8_max 2 = .ok (.if_icmp .lt 7, 3) := dk_161 0 7 (dk_at dksJ8_max_0 2 rfl rfl)
theorem dJ8_max_5 : decode cJ8_max 5 = .ok (.iload_n 0, 1) := dk_26 (dk_at dksJ8_max_0 5 rfl rfl)
theorem dJ8_max_6 : decode cJ8_max 6 = .ok (.goto 4, 3) := dk_167 0 4 (dk_at dksJ8_max_0 6 rfl rfl)
theorem dJ8_max_9 : decode cJ8_max 9 = .ok (.iload_n 1, 1) := dk_27 (dk_at dksJ8_max_0 9 rfl rfl)
theorem dJ8_max_10 : decode cJ8_max 10 = .ok (.ireturn, 1) := dk_172 (dk_at dksJ8_max_0 10 rfl rfl)
abbrev cJ8_min_2 : ByteArray := prog_10_method_69_code
def yJ8_min_2 : MethodName := ⟨RJ8, "min", "(II)I"⟩
def dkwJ8_min_2_0 : List UInt8 := [26, 27, 163, 0, 7, 26, 167, 0, 4, 27, 172]
abbrev dktJ8_min_2_0 : List UInt8 := dkwJ8_min_2_0 ++ []
theorem dksJ8_min_2_0 : cJ8_min_2.data.toList.drop 0 = dktJ8_min_2_0 := by decide +kernel
theorem dJ8_min_2_0 : decode cJ8_min_2 0 = .ok (.iload_n 0, 1) := dk_26 (dk_at dksJ8_min_2_0 0 rfl rfl)
theorem dJ8_min_2_1 : decode cJ8_min_2 1 = .ok (.iload_n 1, 1) := dk_27 (dk_at dksJ8_min_2_0 1 rfl rfl)
theorem dJ8_min_2_2 : decode cJ8_min_2 2 = .ok (.if_icmp .gt 7, 3) := dk_163 0 7 (dk_at dksJ8_min_2_0 2 rfl rfl)
theorem dJ8_min_2_5 : decode cJ8_min_2 5 = .ok (.iload_n 0, 1) := dk_26 (dk_at dksJ8_min_2_0 5 rfl rfl)
theorem dJ8_min_2_6 : decode cJ8_min_2 6 = .ok (.goto 4, 3) := dk_167 0 4 (dk_at dksJ8_min_2_0 6 rfl rfl)
theorem dJ8_min_2_9 : decode cJ8_min_2 9 = .ok (.iload_n 1, 1) := dk_27 (dk_at dksJ8_min_2_0 9 rfl rfl)
theorem dJ8_min_2_10 : decode cJ8_min_2 10 = .ok (.ireturn, 1) := dk_172 (dk_at dksJ8_min_2_0 10 rfl rfl)
theorem q15 : (Jvm.Cond.initialized "java/lang/Math") ∈ lw_all := lw_g (lw_at lw_m1 10 rfl) rfl
theorem q91 : (Jvm.Cond.static ({ cls := "java/lang/Math", name := "min", desc := "(FF)F" } : Jvm.MethodName)) ∈ lw_all := lw_g (lw_at lw_m1 86 rfl) rfl
theorem q92 : (Jvm.Cond.code ({ cls := "java/lang/Math", name := "min", desc := "(FF)F" } : Jvm.MethodName) prog_10_method_71_code (2 : Nat) (Option.some Jvm.ClassFile.FieldType.float)) ∈ lw_all := lw_g (lw_at lw_m1 87 rfl) rfl
theorem q93 : (Jvm.Cond.methodLink "java/lang/Math" (68 : Nat) ({ cls := "java/lang/Float", name := "floatToRawIntBits", desc := "(F)I" } : Jvm.MethodName)) ∈ lw_all := lw_g (lw_at lw_m1 88 rfl) rfl
theorem q96 : (Jvm.Cond.fieldLink "java/lang/Math" (170 : Nat) "java/lang/Math" "negativeZeroFloatBits" "J") ∈ lw_all := lw_g (lw_at lw_m1 91 rfl) rfl
theorem q97 : (Jvm.Cond.laysStatic "java/lang/Math" "negativeZeroFloatBits" "J") ∈ lw_tbl := lw_at lw_m1 92 rfl
theorem q180 : (Jvm.Cond.static ({ cls := "java/lang/Math", name := "max", desc := "(II)I" } : Jvm.MethodName)) ∈ lw_all := lw_g (lw_at lw_m1 175 rfl) rfl
theorem q181 : (Jvm.Cond.code ({ cls := "java/lang/Math", name := "max", desc := "(II)I" } : Jvm.MethodName) prog_10_method_65_code (2 : Nat) (Option.some Jvm.ClassFile.FieldType.int)) ∈ lw_all := lw_g (lw_at lw_m1 176 rfl) rfl
theorem q206 : (Jvm.Cond.static ({ cls := "java/lang/Math", name := "min", desc := "(II)I" } : Jvm.MethodName)) ∈ lw_all := lw_g (lw_at lw_m1 201 rfl) rfl
theorem q207 : (Jvm.Cond.code ({ cls := "java/lang/Math", name := "min", desc := "(II)I" } : Jvm.MethodName) prog_10_method_69_code (2 : Nat) (Option.some Jvm.ClassFile.FieldType.int)) ∈ lw_all := lw_g (lw_at lw_m1 202 rfl) rfl
/-! java/lang/Integer -/
set_option maxRecDepth 100000
def RJ9 : String := "java/lang/Integer"
def TJ9 : u_T := fun k => match k with
  | _ => ("java/lang/Integer", "value", "I", true)
def tyJ9 : Nat → FieldType := fun k => match k with
  | _ => .int
abbrev wsJ90 : List Cond := u_ws RJ9 TJ9 1
theorem nmJ9 : ∀ a, a < 1 → ∀ b, b < 1 → a ≠ b → (TJ9 a).2.1 ≠ (TJ9 b).2.1 := by decide +kernel
theorem tyJ9_ok : ∀ k, k < 1 → parseFieldDescriptor (TJ9 k).2.2.1 = some (tyJ9 k) := by decide +kernel
abbrev cJ9_valueOf : ByteArray := prog_7_method_22_code
def yJ9_valueOf : MethodName := ⟨RJ9, "valueOf", "(I)Ljava/lang/Integer;"⟩
def dkwJ9_valueOf_1 : List UInt8 := [187, 0, 1, 89, 26, 183, 0, 199, 176]
abbrev dktJ9_valueOf_1 : List UInt8 := dkwJ9_valueOf_1 ++ []
def dkwJ9_valueOf_0 : List UInt8 := [26, 16, 128, 161, 0, 20, 26, 178, 0, 191, 163, 0, 13, 178, 0, 195, 26, 17, 0, 128, 96, 50, 176]
abbrev dktJ9_valueOf_0 : List UInt8 := dkwJ9_valueOf_0 ++ dktJ9_valueOf_1
theorem dksJ9_valueOf_0 : cJ9_valueOf.data.toList.drop 0 = dktJ9_valueOf_0 := by decide +kernel
theorem dksJ9_valueOf_1 : cJ9_valueOf.data.toList.drop 23 = dktJ9_valueOf_1 := dk_seg dksJ9_valueOf_0 23 rfl rfl
theorem dJ9_valueOf_0 : decode cJ9_valueOf 0 = .ok (.iload_n 0, 1) := dk_26 (dk_at dksJ9_valueOf_0 0 rfl rfl)
theorem dJ9_valueOf_1 : decode cJ9_valueOf 1 = .ok (.bipush (-128), 2) := dk_16 128 (dk_at dksJ9_valueOf_0 1 rfl rfl)
theorem dJ9_valueOf_3 : decode cJ9_valueOf 3 = .ok (.if_icmp .lt 20, 3) := dk_161 0 20 (dk_at dksJ9_valueOf_0 3 rfl rfl)
theorem dJ9_valueOf_6 : decode cJ9_valueOf 6 = .ok (.iload_n 0, 1) := dk_26 (dk_at dksJ9_valueOf_0 6 rfl rfl)
theorem dJ9_valueOf_7 : decode cJ9_valueOf 7 = .ok (.getstatic 191, 3) := dk_178 0 191 (dk_at dksJ9_valueOf_0 7 rfl rfl)
theorem dJ9_valueOf_10 : decode cJ9_valueOf 10 = .ok (.if_icmp .gt 13, 3) := dk_163 0 13 (dk_at dksJ9_valueOf_0 10 rfl rfl)
theorem dJ9_valueOf_13 : decode cJ9_valueOf 13 = .ok (.getstatic 195, 3) := dk_178 0 195 (dk_at dksJ9_valueOf_0 13 rfl rfl)
theorem dJ9_valueOf_16 : decode cJ9_valueOf 16 = .ok (.iload_n 0, 1) := dk_26 (dk_at dksJ9_valueOf_0 16 rfl rfl)
theorem dJ9_valueOf_17 : decode cJ9_valueOf 17 = .ok (.sipush 128, 3) := dk_17 0 128 (dk_at dksJ9_valueOf_0 17 rfl rfl)
theorem dJ9_valueOf_20 : decode cJ9_valueOf 20 = .ok (.iadd, 1) := dk_96 (dk_at dksJ9_valueOf_0 20 rfl rfl)
theorem dJ9_valueOf_21 : decode cJ9_valueOf 21 = .ok (.aaload, 1) := dk_50 (dk_at dksJ9_valueOf_0 21 rfl rfl)
theorem dJ9_valueOf_22 : decode cJ9_valueOf 22 = .ok (.areturn, 1) := dk_176 (dk_at dksJ9_valueOf_0 22 rfl rfl)
theorem dJ9_valueOf_23 : decode cJ9_valueOf 23 = .ok (.new 1, 3) := dk_187 0 1 (dk_at dksJ9_valueOf_1 0 rfl rfl)
theorem dJ9_valueOf_26 : decode cJ9_valueOf 26 = .ok (.dup, 1) := dk_89 (dk_at dksJ9_valueOf_1 3 rfl rfl)
theorem dJ9_valueOf_27 : decode cJ9_valueOf 27 = .ok (.iload_n 0, 1) := dk_26 (dk_at dksJ9_valueOf_1 4 rfl rfl)
theorem dJ9_valueOf_28 : decode cJ9_valueOf 28 = .ok (.invokespecial 199, 3) := dk_183 0 199 (dk_at dksJ9_valueOf_1 5 rfl rfl)
theorem dJ9_valueOf_31 : decode cJ9_valueOf 31 = .ok (.areturn, 1) := dk_176 (dk_at dksJ9_valueOf_1 8 rfl rfl)
abbrev cJ9_init : ByteArray := prog_7_method_23_code
def yJ9_init : MethodName := ⟨RJ9, "<init>", "(I)V"⟩
def dkwJ9_init_0 : List UInt8 := [42, 183, 0, 202, 42, 27, 181, 0, 205, 177]
abbrev dktJ9_init_0 : List UInt8 := dkwJ9_init_0 ++ []
theorem dksJ9_init_0 : cJ9_init.data.toList.drop 0 = dktJ9_init_0 := by decide +kernel
theorem dJ9_init_0 : decode cJ9_init 0 = .ok (.aload_n 0, 1) := dk_42 (dk_at dksJ9_init_0 0 rfl rfl)
theorem dJ9_init_1 : decode cJ9_init 1 = .ok (.invokespecial 202, 3) := dk_183 0 202 (dk_at dksJ9_init_0 1 rfl rfl)
theorem dJ9_init_4 : decode cJ9_init 4 = .ok (.aload_n 0, 1) := dk_42 (dk_at dksJ9_init_0 4 rfl rfl)
theorem dJ9_init_5 : decode cJ9_init 5 = .ok (.iload_n 1, 1) := dk_27 (dk_at dksJ9_init_0 5 rfl rfl)
theorem dJ9_init_6 : decode cJ9_init 6 = .ok (.putfield 205, 3) := dk_181 0 205 (dk_at dksJ9_init_0 6 rfl rfl)
theorem dJ9_init_9 : decode cJ9_init 9 = .ok (.return_, 1) := dk_177 (dk_at dksJ9_init_0 9 rfl rfl)
abbrev cJ9_intValue : ByteArray := prog_7_method_27_code
def yJ9_intValue : MethodName := ⟨RJ9, "intValue", "()I"⟩
theorem dJ9_intValue_0 : decode cJ9_intValue 0 = .ok (.aload_n 0, 1) := by decide +kernel
theorem dJ9_intValue_1 : decode cJ9_intValue 1 = .ok (.getfield 205, 3) := by decide +kernel
theorem dJ9_intValue_4 : decode cJ9_intValue 4 = .ok (.ireturn, 1) := by decide +kernel
abbrev cJ9_equals : ByteArray := prog_7_method_34_code
def yJ9_equals : MethodName := ⟨RJ9, "equals", "(Ljava/lang/Object;)Z"⟩
def dkwJ9_equals_1 : List UInt8 := [167, 0, 4, 3, 172, 3, 172]
abbrev dktJ9_equals_1 : List UInt8 := dkwJ9_equals_1 ++ []
def dkwJ9_equals_0 : List UInt8 := [43, 193, 0, 1, 153, 0, 23, 42, 180, 0, 205, 43, 192, 0, 1, 182, 0, 211, 160, 0, 7, 4]
abbrev dktJ9_equals_0 : List UInt8 := dkwJ9_equals_0 ++ dktJ9_equals_1
theorem dksJ9_equals_0 : cJ9_equals.data.toList.drop 0 = dktJ9_equals_0 := by decide +kernel
theorem dksJ9_equals_1 : cJ9_equals.data.toList.drop 22 = dktJ9_equals_1 := dk_seg dksJ9_equals_0 22 rfl rfl
theorem dJ9_equals_0 : decode cJ9_equals 0 = .ok (.aload_n 1, 1) := dk_43 (dk_at dksJ9_equals_0 0 rfl rfl)
theorem dJ9_equals_1 : decode cJ9_equals 1 = .ok (.instanceof 1, 3) := dk_193 0 1 (dk_at dksJ9_equals_0 1 rfl rfl)
theorem dJ9_equals_4 : decode cJ9_equals 4 = .ok (.ifCond .eq 23, 3) := dk_153 0 23 (dk_at dksJ9_equals_0 4 rfl rfl)
theorem dJ9_equals_7 : decode cJ9_equals 7 = .ok (.aload_n 0, 1) := dk_42 (dk_at dksJ9_equals_0 7 rfl rfl)
theorem dJ9_equals_8 : decode cJ9_equals 8 = .ok (.getfield 205, 3) := dk_180 0 205 (dk_at dksJ9_equals_0 8 rfl rfl)
theorem dJ9_equals_11 : decode cJ9_equals 11 = .ok (.aload_n 1, 1) := dk_43 (dk_at dksJ9_equals_0 11 rfl rfl)
theorem dJ9_equals_12 : decode cJ9_equals 12 = .ok (.checkcast 1, 3) := dk_192 0 1 (dk_at dksJ9_equals_0 12 rfl rfl)
theorem dJ9_equals_15 : decode cJ9_equals 15 = .ok (.invokevirtual 211, 3) := dk_182 0 211 (dk_at dksJ9_equals_0 15 rfl rfl)
theorem dJ9_equals_18 : decode cJ9_equals 18 = .ok (.if_icmp .ne 7, 3) := dk_160 0 7 (dk_at dksJ9_equals_0 18 rfl rfl)
theorem dJ9_equals_21 : decode cJ9_equals 21 = .ok (.iconst 1, 1) := dk_4 (dk_at dksJ9_equals_0 21 rfl rfl)
theorem dJ9_equals_22 : decode cJ9_equals 22 = .ok (.goto 4, 3) := dk_167 0 4 (dk_at dksJ9_equals_1 0 rfl rfl)
theorem dJ9_equals_25 : decode cJ9_equals 25 = .ok (.iconst 0, 1) := dk_3 (dk_at dksJ9_equals_1 3 rfl rfl)
theorem dJ9_equals_26 : decode cJ9_equals 26 = .ok (.ireturn, 1) := dk_172 (dk_at dksJ9_equals_1 4 rfl rfl)
theorem dJ9_equals_27 : decode cJ9_equals 27 = .ok (.iconst 0, 1) := dk_3 (dk_at dksJ9_equals_1 5 rfl rfl)
theorem dJ9_equals_28 : decode cJ9_equals 28 = .ok (.ireturn, 1) := dk_172 (dk_at dksJ9_equals_1 6 rfl rfl)
abbrev cJ9_hashCode : ByteArray := prog_7_method_32_code
def yJ9_hashCode : MethodName := ⟨RJ9, "hashCode", "()I"⟩
def dkwJ9_hashCode_0 : List UInt8 := [42, 180, 0, 205, 184, 0, 208, 172]
abbrev dktJ9_hashCode_0 : List UInt8 := dkwJ9_hashCode_0 ++ []
theorem dksJ9_hashCode_0 : cJ9_hashCode.data.toList.drop 0 = dktJ9_hashCode_0 := by decide +kernel
theorem dJ9_hashCode_0 : decode cJ9_hashCode 0 = .ok (.aload_n 0, 1) := dk_42 (dk_at dksJ9_hashCode_0 0 rfl rfl)
theorem dJ9_hashCode_1 : decode cJ9_hashCode 1 = .ok (.getfield 205, 3) := dk_180 0 205 (dk_at dksJ9_hashCode_0 1 rfl rfl)
theorem dJ9_hashCode_4 : decode cJ9_hashCode 4 = .ok (.invokestatic 208, 3) := dk_184 0 208 (dk_at dksJ9_hashCode_0 4 rfl rfl)
theorem dJ9_hashCode_7 : decode cJ9_hashCode 7 = .ok (.ireturn, 1) := dk_172 (dk_at dksJ9_hashCode_0 7 rfl rfl)
abbrev cJ9_hashCode_2 : ByteArray := prog_7_method_33_code
def yJ9_hashCode_2 : MethodName := ⟨RJ9, "hashCode", "(I)I"⟩
theorem dJ9_hashCode_2_0 : decode cJ9_hashCode_2 0 = .ok (.iload_n 0, 1) := by decide +kernel
theorem dJ9_hashCode_2_1 : decode cJ9_hashCode_2 1 = .ok (.ireturn, 1) := by decide +kernel
theorem q16 : (Jvm.Cond.initialized "java/lang/Integer") ∈ lw_all := lw_g (lw_at lw_m1 11 rfl) rfl
theorem q134 : (Jvm.Cond.static ({ cls := "java/lang/Integer", name := "valueOf", desc := "(I)Ljava/lang/Integer;" } : Jvm.MethodName)) ∈ lw_all := lw_g (lw_at lw_m1 129 rfl) rfl
theorem q135 : (Jvm.Cond.code ({ cls := "java/lang/Integer", name := "valueOf", desc := "(I)Ljava/lang/Integer;" } : Jvm.MethodName) prog_7_method_22_code (1 : Nat) (Option.some (Jvm.ClassFile.FieldType.object "java/lang/Integer"))) ∈ lw_all := lw_g (lw_at lw_m1 130 rfl) rfl
theorem q136 : (Jvm.Cond.fieldLink "java/lang/Integer" (191 : Nat) "java/lang/Integer$IntegerCache" "high" "I") ∈ lw_all := lw_g (lw_at lw_m1 131 rfl) rfl
theorem q138 : (Jvm.Cond.fieldLink "java/lang/Integer" (195 : Nat) "java/lang/Integer$IntegerCache" "cache" "[Ljava/lang/Integer;") ∈ lw_all := lw_g (lw_at lw_m1 133 rfl) rfl
theorem q140 : (Jvm.Cond.classLink "java/lang/Integer" (1 : Nat) "java/lang/Integer") ∈ lw_all := lw_g (lw_at lw_m1 135 rfl) rfl
theorem q141 : (Jvm.Cond.instantiable "java/lang/Integer" (1 : Nat)) ∈ lw_all := lw_g (lw_at lw_m1 136 rfl) rfl
theorem q142 : (Jvm.Cond.methodLink "java/lang/Integer" (199 : Nat) ({ cls := "java/lang/Integer", name := "<init>", desc := "(I)V" } : Jvm.MethodName)) ∈ lw_all := lw_g (lw_at lw_m1 137 rfl) rfl
theorem q143 : (Jvm.Cond.instanceMethod ({ cls := "java/lang/Integer", name := "<init>", desc := "(I)V" } : Jvm.MethodName)) ∈ lw_all := lw_g (lw_at lw_m1 138 rfl) rfl
theorem q144 : (Jvm.Cond.code ({ cls := "java/lang/Integer", name := "<init>", desc := "(I)V" } : Jvm.MethodName) prog_7_method_23_code (2 : Nat) (Option.none : Option Jvm.ClassFile.FieldType)) ∈ lw_all := lw_g (lw_at lw_m1 139 rfl) rfl
theorem q145 : (Jvm.Cond.methodLink "java/lang/Integer" (202 : Nat) ({ cls := "java/lang/Number", name := "<init>", desc := "()V" } : Jvm.MethodName)) ∈ lw_all := lw_g (lw_at lw_m1 140 rfl) rfl
theorem q149 : (Jvm.Cond.fieldLink "java/lang/Integer" (205 : Nat) "java/lang/Integer" "value" "I") ∈ lw_all := lw_g (lw_at lw_m1 144 rfl) rfl
theorem q150 : (Jvm.Cond.laysFinal "java/lang/Integer" "java/lang/Integer" "value" "I") ∈ lw_all := lw_g (lw_at lw_m1 145 rfl) rfl
theorem q151 : (Jvm.Cond.soleField "java/lang/Integer" "value") ∈ lw_all := lw_g (lw_at lw_m1 146 rfl) rfl
theorem q152 : (Jvm.Cond.superclass "java/lang/Integer" "java/lang/Number") ∈ lw_all := lw_g (lw_at lw_m1 147 rfl) rfl
theorem q193 : (Jvm.Cond.selects "java/lang/Integer" ({ cls := "java/lang/Object", name := "getClass", desc := "()Ljava/lang/Class;" } : Jvm.MethodName) ({ cls := "java/lang/Object", name := "getClass", desc := "()Ljava/lang/Class;" } : Jvm.MethodName)) ∈ lw_all := lw_g (lw_at lw_m1 188 rfl) rfl
theorem q213 : (Jvm.Cond.instanceMethod ({ cls := "java/lang/Integer", name := "intValue", desc := "()I" } : Jvm.MethodName)) ∈ lw_all := lw_g (lw_at lw_m1 208 rfl) rfl
theorem q214 : (Jvm.Cond.selects "java/lang/Integer" ({ cls := "java/lang/Integer", name := "intValue", desc := "()I" } : Jvm.MethodName) ({ cls := "java/lang/Integer", name := "intValue", desc := "()I" } : Jvm.MethodName)) ∈ lw_all := lw_g (lw_at lw_m1 209 rfl) rfl
theorem q215 : (Jvm.Cond.code ({ cls := "java/lang/Integer", name := "intValue", desc := "()I" } : Jvm.MethodName) prog_7_method_27_code (1 : Nat) (Option.some Jvm.ClassFile.FieldType.int)) ∈ lw_all := lw_g (lw_at lw_m1 210 rfl) rfl
theorem q289 : (Jvm.Cond.selects "java/lang/Integer" ({ cls := "java/lang/Object", name := "equals", desc := "(Ljava/lang/Object;)Z" } : Jvm.MethodName) ({ cls := "java/lang/Integer", name := "equals", desc := "(Ljava/lang/Object;)Z" } : Jvm.MethodName)) ∈ lw_all := lw_g (lw_at lw_m2 44 rfl) rfl
theorem q290 : (Jvm.Cond.instanceMethod ({ cls := "java/lang/Integer", name := "equals", desc := "(Ljava/lang/Object;)Z" } : Jvm.MethodName)) ∈ lw_all := lw_g (lw_at lw_m2 45 rfl) rfl
theorem q291 : (Jvm.Cond.code ({ cls := "java/lang/Integer", name := "equals", desc := "(Ljava/lang/Object;)Z" } : Jvm.MethodName) prog_7_method_34_code (2 : Nat) (Option.some Jvm.ClassFile.FieldType.boolean)) ∈ lw_all := lw_g (lw_at lw_m2 46 rfl) rfl
theorem q292 : (Jvm.Cond.methodLink "java/lang/Integer" (211 : Nat) ({ cls := "java/lang/Integer", name := "intValue", desc := "()I" } : Jvm.MethodName)) ∈ lw_all := lw_g (lw_at lw_m2 47 rfl) rfl
theorem q353 : (Jvm.Cond.selects "java/lang/Integer" ({ cls := "java/lang/Object", name := "hashCode", desc := "()I" } : Jvm.MethodName) ({ cls := "java/lang/Integer", name := "hashCode", desc := "()I" } : Jvm.MethodName)) ∈ lw_all := lw_g (lw_at lw_m2 108 rfl) rfl
theorem q354 : (Jvm.Cond.instanceMethod ({ cls := "java/lang/Integer", name := "hashCode", desc := "()I" } : Jvm.MethodName)) ∈ lw_all := lw_g (lw_at lw_m2 109 rfl) rfl
theorem q355 : (Jvm.Cond.code ({ cls := "java/lang/Integer", name := "hashCode", desc := "()I" } : Jvm.MethodName) prog_7_method_32_code (1 : Nat) (Option.some Jvm.ClassFile.FieldType.int)) ∈ lw_all := lw_g (lw_at lw_m2 110 rfl) rfl
theorem q356 : (Jvm.Cond.methodLink "java/lang/Integer" (208 : Nat) ({ cls := "java/lang/Integer", name := "hashCode", desc := "(I)I" } : Jvm.MethodName)) ∈ lw_all := lw_g (lw_at lw_m2 111 rfl) rfl
theorem q357 : (Jvm.Cond.static ({ cls := "java/lang/Integer", name := "hashCode", desc := "(I)I" } : Jvm.MethodName)) ∈ lw_all := lw_g (lw_at lw_m2 112 rfl) rfl
theorem q358 : (Jvm.Cond.code ({ cls := "java/lang/Integer", name := "hashCode", desc := "(I)I" } : Jvm.MethodName) prog_7_method_33_code (1 : Nat) (Option.some Jvm.ClassFile.FieldType.int)) ∈ lw_all := lw_g (lw_at lw_m2 113 rfl) rfl
theorem q530 : (Jvm.Cond.castable "java/lang/Integer" "java/lang/Object") ∈ lw_tbl := lw_at lw_m3 45 rfl
theorem in_J9 : ∀ w ∈ wsJ90, w ∈ lw_all := lw_in wsJ90 [150] (by decide +kernel) (by decide +kernel)
/-! jdk/internal/util/ArraysSupport -/
set_option maxRecDepth 100000
def RJ10 : String := "jdk/internal/util/ArraysSupport"
abbrev cJ10_newLength : ByteArray := prog_34_method_27_code
def yJ10_newLength : MethodName := ⟨RJ10, "newLength", "(III)I"⟩
def dkwJ10_newLength_1 : List UInt8 := [184, 0, 201, 172]
abbrev dktJ10_newLength_1 : List UInt8 := dkwJ10_newLength_1 ++ []
def dkwJ10_newLength_0 : List UInt8 := [26, 27, 28, 184, 0, 194, 96, 62, 3, 29, 162, 0, 11, 29, 18, 200, 163, 0, 5, 29, 172, 26, 27]
abbrev dktJ10_newLength_0 : List UInt8 := dkwJ10_newLength_0 ++ dktJ10_newLength_1
theorem dksJ10_newLength_0 : cJ10_newLength.data.toList.drop 0 = dktJ10_newLength_0 := by decide +kernel
theorem dksJ10_newLength_1 : cJ10_newLength.data.toList.drop 23 = dktJ10_newLength_1 := dk_seg dksJ10_newLength_0 23 rfl rfl
theorem dJ10_newLength_0 : decode cJ10_newLength 0 = .ok (.iload_n 0, 1) := dk_26 (dk_at dksJ10_newLength_0 0 rfl rfl)
theorem dJ10_newLength_1 : decode cJ10_newLength 1 = .ok (.iload_n 1, 1) := dk_27 (dk_at dksJ10_newLength_0 1 rfl rfl)
theorem dJ10_newLength_2 : decode cJ10_newLength 2 = .ok (.iload_n 2, 1) := dk_28 (dk_at dksJ10_newLength_0 2 rfl rfl)
theorem dJ10_newLength_3 : decode cJ10_newLength 3 = .ok (.invokestatic 194, 3) := dk_184 0 194 (dk_at dksJ10_newLength_0 3 rfl rfl)
theorem dJ10_newLength_6 : decode cJ10_newLength 6 = .ok (.iadd, 1) := dk_96 (dk_at dksJ10_newLength_0 6 rfl rfl)
theorem dJ10_newLength_7 : decode cJ10_newLength 7 = .ok (.istore_n 3, 1) := dk_62 (dk_at dksJ10_newLength_0 7 rfl rfl)
theorem dJ10_newLength_8 : decode cJ10_newLength 8 = .ok (.iconst 0, 1) := dk_3 (dk_at dksJ10_newLength_0 8 rfl rfl)
theorem dJ10_newLength_9 : decode cJ10_newLength 9 = .ok (.iload_n 3, 1) := dk_29 (dk_at dksJ10_newLength_0 9 rfl rfl)
theorem dJ10_newLength_10 : decode cJ10_newLength 10 = .ok (.if_icmp .ge 11, 3) := dk_162 0 11 (dk_at dksJ10_newLength_0 10 rfl rfl)
theorem dJ10_newLength_13 : decode cJ10_newLength 13 = .ok (.iload_n 3, 1) := dk_29 (dk_at dksJ10_newLength_0 13 rfl rfl)
theorem dJ10_newLength_14 : decode cJ10_newLength 14 = .ok (.ldc 200, 2) := dk_18 200 (dk_at dksJ10_newLength_0 14 rfl rfl)
theorem dJ10_newLength_16 : decode cJ10_newLength 16 = .ok (.if_icmp .gt 5, 3) := dk_163 0 5 (dk_at dksJ10_newLength_0 16 rfl rfl)
theorem dJ10_newLength_19 : decode cJ10_newLength 19 = .ok (.iload_n 3, 1) := dk_29 (dk_at dksJ10_newLength_0 19 rfl rfl)
theorem dJ10_newLength_20 : decode cJ10_newLength 20 = .ok (.ireturn, 1) := dk_172 (dk_at dksJ10_newLength_0 20 rfl rfl)
theorem dJ10_newLength_21 : decode cJ10_newLength 21 = .ok (.iload_n 0, 1) := dk_26 (dk_at dksJ10_newLength_0 21 rfl rfl)
theorem dJ10_newLength_22 : decode cJ10_newLength 22 = .ok (.iload_n 1, 1) := dk_27 (dk_at dksJ10_newLength_0 22 rfl rfl)
theorem dJ10_newLength_23 : decode cJ10_newLength 23 = .ok (.invokestatic 201, 3) := dk_184 0 201 (dk_at dksJ10_newLength_1 0 rfl rfl)
theorem dJ10_newLength_26 : decode cJ10_newLength 26 = .ok (.ireturn, 1) := dk_172 (dk_at dksJ10_newLength_1 3 rfl rfl)
abbrev cJ10_hugeLength : ByteArray := prog_34_method_28_code
def yJ10_hugeLength : MethodName := ⟨RJ10, "hugeLength", "(II)I"⟩
def dkwJ10_hugeLength_2 : List UInt8 := [191, 28, 18, 200, 163, 0, 6, 18, 200, 172, 28, 172]
abbrev dktJ10_hugeLength_2 : List UInt8 := dkwJ10_hugeLength_2 ++ []
def dkwJ10_hugeLength_1 : List UInt8 := [26, 182, 0, 98, 18, 208, 182, 0, 94, 27, 182, 0, 98, 18, 210, 182, 0, 94, 182, 0, 101, 183, 0, 212]
abbrev dktJ10_hugeLength_1 : List UInt8 := dkwJ10_hugeLength_1 ++ dktJ10_hugeLength_2
def dkwJ10_hugeLength_0 : List UInt8 := [26, 27, 96, 61, 28, 156, 0, 44, 187, 0, 204, 89, 187, 0, 89, 89, 183, 0, 91, 18, 206, 182, 0, 94]
abbrev dktJ10_hugeLength_0 : List UInt8 := dkwJ10_hugeLength_0 ++ dktJ10_hugeLength_1
theorem dksJ10_hugeLength_0 : cJ10_hugeLength.data.toList.drop 0 = dktJ10_hugeLength_0 := by decide +kernel
theorem dksJ10_hugeLength_1 : cJ10_hugeLength.data.toList.drop 24 = dktJ10_hugeLength_1 := dk_seg dksJ10_hugeLength_0 24 rfl rfl
theorem dksJ10_hugeLength_2 : cJ10_hugeLength.data.toList.drop 48 = dktJ10_hugeLength_2 := dk_seg dksJ10_hugeLength_1 24 rfl rfl
theorem dJ10_hugeLength_0 : decode cJ10_hugeLength 0 = .ok (.iload_n 0, 1) := dk_26 (dk_at dksJ10_hugeLength_0 0 rfl rfl)
theorem dJ10_hugeLength_1 : decode cJ10_hugeLength 1 = .ok (.iload_n 1, 1) := dk_27 (dk_at dksJ10_hugeLength_0 1 rfl rfl)
theorem dJ10_hugeLength_2 : decode cJ10_hugeLength 2 = .ok (.iadd, 1) := dk_96 (dk_at dksJ10_hugeLength_0 2 rfl rfl)
theorem dJ10_hugeLength_3 : decode cJ10_hugeLength 3 = .ok (.istore_n 2, 1) := dk_61 (dk_at dksJ10_hugeLength_0 3 rfl rfl)
theorem dJ10_hugeLength_4 : decode cJ10_hugeLength 4 = .ok (.iload_n 2, 1) := dk_28 (dk_at dksJ10_hugeLength_0 4 rfl rfl)
theorem dJ10_hugeLength_5 : decode cJ10_hugeLength 5 = .ok (.ifCond .ge 44, 3) := dk_156 0 44 (dk_at dksJ10_hugeLength_0 5 rfl rfl)
theorem dJ10_hugeLength_8 : decode cJ10_hugeLength 8 = .ok (.new 204, 3) := dk_187 0 204 (dk_at dksJ10_hugeLength_0 8 rfl rfl)
theorem dJ10_hugeLength_11 : decode cJ10_hugeLength 11 = .ok (.dup, 1) := dk_89 (dk_at dksJ10_hugeLength_0 11 rfl rfl)
theorem dJ10_hugeLength_12 : decode cJ10_hugeLength 12 = .ok (.new 89, 3) := dk_187 0 89 (dk_at dksJ10_hugeLength_0 12 rfl rfl)
theorem dJ10_hugeLength_15 : decode cJ10_hugeLength 15 = .ok (.dup, 1) := dk_89 (dk_at dksJ10_hugeLength_0 15 rfl rfl)
theorem dJ10_hugeLength_16 : decode cJ10_hugeLength 16 = .ok (.invokespecial 91, 3) := dk_183 0 91 (dk_at dksJ10_hugeLength_0 16 rfl rfl)
theorem dJ10_hugeLength_19 : decode cJ10_hugeLength 19 = .ok (.ldc 206, 2) := dk_18 206 (dk_at dksJ10_hugeLength_0 19 rfl rfl)
theorem dJ10_hugeLength_21 : decode cJ10_hugeLength 21 = .ok (.invokevirtual 94, 3) := dk_182 0 94 (dk_at dksJ10_hugeLength_0 21 rfl rfl)
theorem dJ10_hugeLength_24 : decode cJ10_hugeLength 24 = .ok (.iload_n 0, 1) := dk_26 (dk_at dksJ10_hugeLength_1 0 rfl rfl)
theorem dJ10_hugeLength_25 : decode cJ10_hugeLength 25 = .ok (.invokevirtual 98, 3) := dk_182 0 98 (dk_at dksJ10_hugeLength_1 1 rfl rfl)
theorem dJ10_hugeLength_28 : decode cJ10_hugeLength 28 = .ok (.ldc 208, 2) := dk_18 208 (dk_at dksJ10_hugeLength_1 4 rfl rfl)
theorem dJ10_hugeLength_30 : decode cJ10_hugeLength 30 = .ok (.invokevirtual 94, 3) := dk_182 0 94 (dk_at dksJ10_hugeLength_1 6 rfl rfl)
theorem dJ10_hugeLength_33 : decode cJ10_hugeLength 33 = .ok (.iload_n 1, 1) := dk_27 (dk_at dksJ10_hugeLength_1 9 rfl rfl)
theorem dJ10_hugeLength_34 : decode cJ10_hugeLength 34 = .ok (.invokevirtual 98, 3) := dk_182 0 98 (dk_at dksJ10_hugeLength_1 10 rfl rfl)
theorem dJ10_hugeLength_37 : decode cJ10_hugeLength 37 = .ok (.ldc 210, 2) := dk_18 210 (dk_at dksJ10_hugeLength_1 13 rfl rfl)
theorem dJ10_hugeLength_39 : decode cJ10_hugeLength 39 = .ok (.invokevirtual 94, 3) := dk_182 0 94 (dk_at dksJ10_hugeLength_1 15 rfl rfl)
theorem dJ10_hugeLength_42 : decode cJ10_hugeLength 42 = .ok (.invokevirtual 101, 3) := dk_182 0 101 (dk_at dksJ10_hugeLength_1 18 rfl rfl)
theorem dJ10_hugeLength_45 : decode cJ10_hugeLength 45 = .ok (.invokespecial 212, 3) := dk_183 0 212 (dk_at dksJ10_hugeLength_1 21 rfl rfl)
theorem dJ10_hugeLength_48 : decode cJ10_hugeLength 48 = .ok (.athrow, 1) := dk_191 (dk_at dksJ10_hugeLength_2 0 rfl rfl)
theorem dJ10_hugeLength_49 : decode cJ10_hugeLength 49 = .ok (.iload_n 2, 1) := dk_28 (dk_at dksJ10_hugeLength_2 1 rfl rfl)
theorem dJ10_hugeLength_50 : decode cJ10_hugeLength 50 = .ok (.ldc 200, 2) := dk_18 200 (dk_at dksJ10_hugeLength_2 2 rfl rfl)
theorem dJ10_hugeLength_52 : decode cJ10_hugeLength 52 = .ok (.if_icmp .gt 6, 3) := dk_163 0 6 (dk_at dksJ10_hugeLength_2 4 rfl rfl)
theorem dJ10_hugeLength_55 : decode cJ10_hugeLength 55 = .ok (.ldc 200, 2) := dk_18 200 (dk_at dksJ10_hugeLength_2 7 rfl rfl)
theorem dJ10_hugeLength_57 : decode cJ10_hugeLength 57 = .ok (.ireturn, 1) := dk_172 (dk_at dksJ10_hugeLength_2 9 rfl rfl)
theorem dJ10_hugeLength_58 : decode cJ10_hugeLength 58 = .ok (.iload_n 2, 1) := dk_28 (dk_at dksJ10_hugeLength_2 10 rfl rfl)
theorem dJ10_hugeLength_59 : decode cJ10_hugeLength 59 = .ok (.ireturn, 1) := dk_172 (dk_at dksJ10_hugeLength_2 11 rfl rfl)
theorem q18 : (Jvm.Cond.initialized "jdk/internal/util/ArraysSupport") ∈ lw_all := lw_g (lw_at lw_m1 13 rfl) rfl
theorem q177 : (Jvm.Cond.static ({ cls := "jdk/internal/util/ArraysSupport", name := "newLength", desc := "(III)I" } : Jvm.MethodName)) ∈ lw_all := lw_g (lw_at lw_m1 172 rfl) rfl
theorem q178 : (Jvm.Cond.code ({ cls := "jdk/internal/util/ArraysSupport", name := "newLength", desc := "(III)I" } : Jvm.MethodName) prog_34_method_27_code (4 : Nat) (Option.some Jvm.ClassFile.FieldType.int)) ∈ lw_all := lw_g (lw_at lw_m1 173 rfl) rfl
theorem q179 : (Jvm.Cond.methodLink "jdk/internal/util/ArraysSupport" (194 : Nat) ({ cls := "java/lang/Math", name := "max", desc := "(II)I" } : Jvm.MethodName)) ∈ lw_all := lw_g (lw_at lw_m1 174 rfl) rfl
theorem q182 : (Jvm.Cond.constant "jdk/internal/util/ArraysSupport" (200 : Nat) (2147483639 : Int32)) ∈ lw_all := lw_g (lw_at lw_m1 177 rfl) rfl
theorem q183 : (Jvm.Cond.methodLink "jdk/internal/util/ArraysSupport" (201 : Nat) ({ cls := "jdk/internal/util/ArraysSupport", name := "hugeLength", desc := "(II)I" } : Jvm.MethodName)) ∈ lw_all := lw_g (lw_at lw_m1 178 rfl) rfl
theorem q184 : (Jvm.Cond.static ({ cls := "jdk/internal/util/ArraysSupport", name := "hugeLength", desc := "(II)I" } : Jvm.MethodName)) ∈ lw_all := lw_g (lw_at lw_m1 179 rfl) rfl
theorem q185 : (Jvm.Cond.code ({ cls := "jdk/internal/util/ArraysSupport", name := "hugeLength", desc := "(II)I" } : Jvm.MethodName) prog_34_method_28_code (3 : Nat) (Option.some Jvm.ClassFile.FieldType.int)) ∈ lw_all := lw_g (lw_at lw_m1 180 rfl) rfl
/-! java/util/Arrays -/
set_option maxRecDepth 100000
def RJ11 : String := "java/util/Arrays"
abbrev cJ11_copyOf : ByteArray := prog_17_method_119_code
def yJ11_copyOf : MethodName := ⟨RJ11, "copyOf", "([Ljava/lang/Object;I)[Ljava/lang/Object;"⟩
def dkwJ11_copyOf_0 : List UInt8 := [42, 27, 42, 182, 0, 86, 184, 1, 44, 176]
abbrev dktJ11_copyOf_0 : List UInt8 := dkwJ11_copyOf_0 ++ []
theorem dksJ11_copyOf_0 : cJ11_copyOf.data.toList.drop 0 = dktJ11_copyOf_0 := by decide +kernel
theorem dJ11_copyOf_0 : decode cJ11_copyOf 0 = .ok (.aload_n 0, 1) := dk_42 (dk_at dksJ11_copyOf_0 0 rfl rfl)
theorem dJ11_copyOf_1 : decode cJ11_copyOf 1 = .ok (.iload_n 1, 1) := dk_27 (dk_at dksJ11_copyOf_0 1 rfl rfl)
theorem dJ11_copyOf_2 : decode cJ11_copyOf 2 = .ok (.aload_n 0, 1) := dk_42 (dk_at dksJ11_copyOf_0 2 rfl rfl)
theorem dJ11_copyOf_3 : decode cJ11_copyOf 3 = .ok (.invokevirtual 86, 3) := dk_182 0 86 (dk_at dksJ11_copyOf_0 3 rfl rfl)
theorem dJ11_copyOf_6 : decode cJ11_copyOf 6 = .ok (.invokestatic 300, 3) := dk_184 1 44 (dk_at dksJ11_copyOf_0 6 rfl rfl)
theorem dJ11_copyOf_9 : decode cJ11_copyOf 9 = .ok (.areturn, 1) := dk_176 (dk_at dksJ11_copyOf_0 9 rfl rfl)
abbrev cJ11_copyOf_2 : ByteArray := prog_17_method_120_code
def yJ11_copyOf_2 : MethodName := ⟨RJ11, "copyOf", "([Ljava/lang/Object;ILjava/lang/Class;)[Ljava/lang/Object;"⟩
def dkwJ11_copyOf_2_1 : List UInt8 := [78, 42, 3, 45, 3, 42, 190, 27, 184, 1, 48, 184, 0, 150, 45, 176]
abbrev dktJ11_copyOf_2_1 : List UInt8 := dkwJ11_copyOf_2_1 ++ []
def dkwJ11_copyOf_2_0 : List UInt8 := [44, 18, 110, 166, 0, 10, 27, 189, 0, 2, 167, 0, 14, 44, 182, 0, 90, 27, 184, 0, 95, 192, 0, 110]
abbrev dktJ11_copyOf_2_0 : List UInt8 := dkwJ11_copyOf_2_0 ++ dktJ11_copyOf_2_1
theorem dksJ11_copyOf_2_0 : cJ11_copyOf_2.data.toList.drop 0 = dktJ11_copyOf_2_0 := by decide +kernel
theorem dksJ11_copyOf_2_1 : cJ11_copyOf_2.data.toList.drop 24 = dktJ11_copyOf_2_1 := dk_seg dksJ11_copyOf_2_0 24 rfl rfl
theorem dJ11_copyOf_2_0 : decode cJ11_copyOf_2 0 = .ok (.aload_n 2, 1) := dk_44 (dk_at dksJ11_copyOf_2_0 0 rfl rfl)
theorem dJ11_copyOf_2_1 : decode cJ11_copyOf_2 1 = .ok (.ldc 110, 2) := dk_18 110 (dk_at dksJ11_copyOf_2_0 1 rfl rfl)
theorem dJ11_copyOf_2_3 : decode cJ11_copyOf_2 3 = .ok (.if_acmp .ne 10, 3) := dk_166 0 10 (dk_at dksJ11_copyOf_2_0 3 rfl rfl)
theorem dJ11_copyOf_2_6 : decode cJ11_copyOf_2 6 = .ok (.iload_n 1, 1) := dk_27 (dk_at dksJ11_copyOf_2_0 6 rfl rfl)
theorem dJ11_copyOf_2_7 : decode cJ11_copyOf_2 7 = .ok (.anewarray 2, 3) := dk_189 0 2 (dk_at dksJ11_copyOf_2_0 7 rfl rfl)
theorem dJ11_copyOf_2_10 : decode cJ11_copyOf_2 10 = .ok (.goto 14, 3) := dk_167 0 14 (dk_at dksJ11_copyOf_2_0 10 rfl rfl)
theorem dJ11_copyOf_2_13 : decode cJ11_copyOf_2 13 = .ok (.aload_n 2, 1) := dk_44 (dk_at dksJ11_copyOf_2_0 13 rfl rfl)
theorem dJ11_copyOf_2_14 : decode cJ11_copyOf_2 14 = .ok (.invokevirtual 90, 3) := dk_182 0 90 (dk_at dksJ11_copyOf_2_0 14 rfl rfl)
theorem dJ11_copyOf_2_17 : decode cJ11_copyOf_2 17 = .ok (.iload_n 1, 1) := dk_27 (dk_at dksJ11_copyOf_2_0 17 rfl rfl)
theorem dJ11_copyOf_2_18 : decode cJ11_copyOf_2 18 = .ok (.invokestatic 95, 3) := dk_184 0 95 (dk_at dksJ11_copyOf_2_0 18 rfl rfl)
theorem dJ11_copyOf_2_21 : decode cJ11_copyOf_2 21 = .ok (.checkcast 110, 3) := dk_192 0 110 (dk_at dksJ11_copyOf_2_0 21 rfl rfl)
theorem dJ11_copyOf_2_24 : decode cJ11_copyOf_2 24 = .ok (.astore_n 3, 1) := dk_78 (dk_at dksJ11_copyOf_2_1 0 rfl rfl)
theorem dJ11_copyOf_2_25 : decode cJ11_copyOf_2 25 = .ok (.aload_n 0, 1) := dk_42 (dk_at dksJ11_copyOf_2_1 1 rfl rfl)
theorem dJ11_copyOf_2_26 : decode cJ11_copyOf_2 26 = .ok (.iconst 0, 1) := dk_3 (dk_at dksJ11_copyOf_2_1 2 rfl rfl)
theorem dJ11_copyOf_2_27 : decode cJ11_copyOf_2 27 = .ok (.aload_n 3, 1) := dk_45 (dk_at dksJ11_copyOf_2_1 3 rfl rfl)
theorem dJ11_copyOf_2_28 : decode cJ11_copyOf_2 28 = .ok (.iconst 0, 1) := dk_3 (dk_at dksJ11_copyOf_2_1 4 rfl rfl)
theorem dJ11_copyOf_2_29 : decode cJ11_copyOf_2 29 = .ok (.aload_n 0, 1) := dk_42 (dk_at dksJ11_copyOf_2_1 5 rfl rfl)
theorem dJ11_copyOf_2_30 : decode cJ11_copyOf_2 30 = .ok (.arraylength, 1) := dk_190 (dk_at dksJ11_copyOf_2_1 6 rfl rfl)
theorem dJ11_copyOf_2_31 : decode cJ11_copyOf_2 31 = .ok (.iload_n 1, 1) := dk_27 (dk_at dksJ11_copyOf_2_1 7 rfl rfl)
theorem dJ11_copyOf_2_32 : decode cJ11_copyOf_2 32 = .ok (.invokestatic 304, 3) := dk_184 1 48 (dk_at dksJ11_copyOf_2_1 8 rfl rfl)
theorem dJ11_copyOf_2_35 : decode cJ11_copyOf_2 35 = .ok (.invokestatic 150, 3) := dk_184 0 150 (dk_at dksJ11_copyOf_2_1 11 rfl rfl)
theorem dJ11_copyOf_2_38 : decode cJ11_copyOf_2 38 = .ok (.aload_n 3, 1) := dk_45 (dk_at dksJ11_copyOf_2_1 14 rfl rfl)
theorem dJ11_copyOf_2_39 : decode cJ11_copyOf_2 39 = .ok (.areturn, 1) := dk_176 (dk_at dksJ11_copyOf_2_1 15 rfl rfl)
theorem q19 : (Jvm.Cond.initialized "java/util/Arrays") ∈ lw_all := lw_g (lw_at lw_m1 14 rfl) rfl
theorem q187 : (Jvm.Cond.static ({ cls := "java/util/Arrays", name := "copyOf", desc := "([Ljava/lang/Object;I)[Ljava/lang/Object;" } : Jvm.MethodName)) ∈ lw_all := lw_g (lw_at lw_m1 182 rfl) rfl
theorem q188 : (Jvm.Cond.code ({ cls := "java/util/Arrays", name := "copyOf", desc := "([Ljava/lang/Object;I)[Ljava/lang/Object;" } : Jvm.MethodName) prog_17_method_119_code (2 : Nat) (Option.some (Jvm.ClassFile.FieldType.array (Jvm.ClassFile.FieldType.object "java/lang/Object")))) ∈ lw_all := lw_g (lw_at lw_m1 183 rfl) rfl
theorem q189 : (Jvm.Cond.methodLink "java/util/Arrays" (86 : Nat) ({ cls := "java/lang/Object", name := "getClass", desc := "()Ljava/lang/Class;" } : Jvm.MethodName)) ∈ lw_all := lw_g (lw_at lw_m1 184 rfl) rfl
theorem q200 : (Jvm.Cond.methodLink "java/util/Arrays" (300 : Nat) ({ cls := "java/util/Arrays", name := "copyOf", desc := "([Ljava/lang/Object;ILjava/lang/Class;)[Ljava/lang/Object;" } : Jvm.MethodName)) ∈ lw_all := lw_g (lw_at lw_m1 195 rfl) rfl
theorem q201 : (Jvm.Cond.static ({ cls := "java/util/Arrays", name := "copyOf", desc := "([Ljava/lang/Object;ILjava/lang/Class;)[Ljava/lang/Object;" } : Jvm.MethodName)) ∈ lw_all := lw_g (lw_at lw_m1 196 rfl) rfl
theorem q202 : (Jvm.Cond.code ({ cls := "java/util/Arrays", name := "copyOf", desc := "([Ljava/lang/Object;ILjava/lang/Class;)[Ljava/lang/Object;" } : Jvm.MethodName) prog_17_method_120_code (4 : Nat) (Option.some (Jvm.ClassFile.FieldType.array (Jvm.ClassFile.FieldType.object "java/lang/Object")))) ∈ lw_all := lw_g (lw_at lw_m1 197 rfl) rfl
theorem q203 : (Jvm.Cond.classLink "java/util/Arrays" (110 : Nat) "[Ljava/lang/Object;") ∈ lw_all := lw_g (lw_at lw_m1 198 rfl) rfl
theorem q204 : (Jvm.Cond.classLink "java/util/Arrays" (2 : Nat) "java/lang/Object") ∈ lw_all := lw_g (lw_at lw_m1 199 rfl) rfl
theorem q205 : (Jvm.Cond.methodLink "java/util/Arrays" (304 : Nat) ({ cls := "java/lang/Math", name := "min", desc := "(II)I" } : Jvm.MethodName)) ∈ lw_all := lw_g (lw_at lw_m1 200 rfl) rfl
theorem q208 : (Jvm.Cond.methodLink "java/util/Arrays" (150 : Nat) ({ cls := "java/lang/System", name := "arraycopy", desc := "(Ljava/lang/Object;ILjava/lang/Object;II)V" } : Jvm.MethodName)) ∈ lw_all := lw_g (lw_at lw_m1 203 rfl) rfl
/-! java/lang/Object -/
set_option maxRecDepth 100000
def RJ16 : String := "java/lang/Object"
abbrev cJ16_init : ByteArray := object_method_1_code
def yJ16_init : MethodName := ⟨RJ16, "<init>", "()V"⟩
theorem dJ16_init_0 : decode cJ16_init 0 = .ok (.return_, 1) := by decide +kernel
abbrev cJ16_equals : ByteArray := object_method_4_code
def yJ16_equals : MethodName := ⟨RJ16, "equals", "(Ljava/lang/Object;)Z"⟩
def dkwJ16_equals_0 : List UInt8 := [42, 43, 166, 0, 7, 4, 167, 0, 4, 3, 172]
abbrev dktJ16_equals_0 : List UInt8 := dkwJ16_equals_0 ++ []
theorem dksJ16_equals_0 : cJ16_equals.data.toList.drop 0 = dktJ16_equals_0 := by decide +kernel
theorem dJ16_equals_0 : decode cJ16_equals 0 = .ok (.aload_n 0, 1) := dk_42 (dk_at dksJ16_equals_0 0 rfl rfl)
theorem dJ16_equals_1 : decode cJ16_equals 1 = .ok (.aload_n 1, 1) := dk_43 (dk_at dksJ16_equals_0 1 rfl rfl)
theorem dJ16_equals_2 : decode cJ16_equals 2 = .ok (.if_acmp .ne 7, 3) := dk_166 0 7 (dk_at dksJ16_equals_0 2 rfl rfl)
theorem dJ16_equals_5 : decode cJ16_equals 5 = .ok (.iconst 1, 1) := dk_4 (dk_at dksJ16_equals_0 5 rfl rfl)
theorem dJ16_equals_6 : decode cJ16_equals 6 = .ok (.goto 4, 3) := dk_167 0 4 (dk_at dksJ16_equals_0 6 rfl rfl)
theorem dJ16_equals_9 : decode cJ16_equals 9 = .ok (.iconst 0, 1) := dk_3 (dk_at dksJ16_equals_0 9 rfl rfl)
theorem dJ16_equals_10 : decode cJ16_equals 10 = .ok (.ireturn, 1) := dk_172 (dk_at dksJ16_equals_0 10 rfl rfl)
theorem q31 : (Jvm.Cond.instanceMethod ({ cls := "java/lang/Object", name := "<init>", desc := "()V" } : Jvm.MethodName)) ∈ lw_all := lw_g (lw_at lw_m1 26 rfl) rfl
theorem q32 : (Jvm.Cond.code ({ cls := "java/lang/Object", name := "<init>", desc := "()V" } : Jvm.MethodName) object_method_1_code (1 : Nat) (Option.none : Option Jvm.ClassFile.FieldType)) ∈ lw_all := lw_g (lw_at lw_m1 27 rfl) rfl
theorem q190 : (Jvm.Cond.instanceMethod ({ cls := "java/lang/Object", name := "getClass", desc := "()Ljava/lang/Class;" } : Jvm.MethodName)) ∈ lw_all := lw_g (lw_at lw_m1 185 rfl) rfl
theorem q191 : (Jvm.Cond.sameMethod "java/lang/Object" "java/lang/Object" "getClass" "()Ljava/lang/Class;") ∈ lw_all := lw_g (lw_at lw_m1 186 rfl) rfl
theorem q199 : (Jvm.Cond.native ({ cls := "java/lang/Object", name := "getClass", desc := "()Ljava/lang/Class;" } : Jvm.MethodName)) ∈ lw_all := lw_g (lw_at lw_m1 194 rfl) rfl
theorem q284 : (Jvm.Cond.declares ({ cls := "java/lang/Object", name := "equals", desc := "(Ljava/lang/Object;)Z" } : Jvm.MethodName)) ∈ lw_tbl := lw_at lw_m2 39 rfl
theorem q286 : (Jvm.Cond.instanceMethod ({ cls := "java/lang/Object", name := "equals", desc := "(Ljava/lang/Object;)Z" } : Jvm.MethodName)) ∈ lw_all := lw_g (lw_at lw_m2 41 rfl) rfl
theorem q287 : (Jvm.Cond.sameMethod "java/lang/Object" "java/lang/Object" "equals" "(Ljava/lang/Object;)Z") ∈ lw_all := lw_g (lw_at lw_m2 42 rfl) rfl
theorem q293 : (Jvm.Cond.code ({ cls := "java/lang/Object", name := "equals", desc := "(Ljava/lang/Object;)Z" } : Jvm.MethodName) object_method_4_code (2 : Nat) (Option.some Jvm.ClassFile.FieldType.boolean)) ∈ lw_all := lw_g (lw_at lw_m2 48 rfl) rfl
theorem q348 : (Jvm.Cond.declares ({ cls := "java/lang/Object", name := "hashCode", desc := "()I" } : Jvm.MethodName)) ∈ lw_tbl := lw_at lw_m2 103 rfl
theorem q350 : (Jvm.Cond.instanceMethod ({ cls := "java/lang/Object", name := "hashCode", desc := "()I" } : Jvm.MethodName)) ∈ lw_all := lw_g (lw_at lw_m2 105 rfl) rfl
theorem q351 : (Jvm.Cond.sameMethod "java/lang/Object" "java/lang/Object" "hashCode" "()I") ∈ lw_all := lw_g (lw_at lw_m2 106 rfl) rfl
theorem q359 : (Jvm.Cond.native ({ cls := "java/lang/Object", name := "hashCode", desc := "()I" } : Jvm.MethodName)) ∈ lw_all := lw_g (lw_at lw_m2 114 rfl) rfl
theorem q525 : (Jvm.Cond.initialized "java/lang/Object") ∈ lw_all := lw_g (lw_at lw_m3 40 rfl) rfl
theorem q536 : (Jvm.Cond.declares ({ cls := "java/lang/Object", name := "getClass", desc := "()Ljava/lang/Class;" } : Jvm.MethodName)) ∈ lw_tbl := lw_at lw_m3 51 rfl
end
section
/-! java/util/Hashtable -/
set_option maxRecDepth 100000
def RJ5 : String := "java/util/Hashtable"
def TJ5 : u_T := fun k => match k with
  | 0 => ("java/util/Hashtable", "table", "[Ljava/util/Hashtable$Entry;", false)
  | 1 => ("java/util/Hashtable", "count", "I", false)
  | 2 => ("java/util/Hashtable", "threshold", "I", false)
  | 3 => ("java/util/Hashtable", "loadFactor", "F", false)
  | 4 => ("java/util/Hashtable", "modCount", "I", false)
  | 5 => ("java/util/Hashtable", "keySet", "Ljava/util/Set;", false)
  | 6 => ("java/util/Hashtable", "entrySet", "Ljava/util/Set;", false)
  | _ => ("java/util/Hashtable", "values", "Ljava/util/Collection;", false)
def tyJ5 : Nat → FieldType := fun k => match k with
  | 0 => .array (.object "java/util/Hashtable$Entry")
  | 1 => .int
  | 2 => .int
  | 3 => .float
  | 4 => .int
  | 5 => .object "java/util/Set"
  | 6 => .object "java/util/Set"
  | _ => .object "java/util/Collection"
abbrev wsJ50 : List Cond := u_ws RJ5 TJ5 8
theorem nmJ5 : ∀ a, a < 8 → ∀ b, b < 8 → a ≠ b → (TJ5 a).2.1 ≠ (TJ5 b).2.1 := by decide +kernel
theorem tyJ5_ok : ∀ k, k < 8 → parseFieldDescriptor (TJ5 k).2.2.1 = some (tyJ5 k) := by decide +kernel
abbrev cJ5_init : ByteArray := prog_23_method_3_code
def yJ5_init : MethodName := ⟨RJ5, "<init>", "()V"⟩
def dkwJ5_init_0 : List UInt8 := [42, 16, 11, 18, 67, 183, 0, 68, 177]
abbrev dktJ5_init_0 : List UInt8 := dkwJ5_init_0 ++ []
theorem dksJ5_init_0 : cJ5_init.data.toList.drop 0 = dktJ5_init_0 := by decide +kernel
theorem dJ5_init_0 : decode cJ5_init 0 = .ok (.aload_n 0, 1) := dk_42 (dk_at dksJ5_init_0 0 rfl rfl)
theorem dJ5_init_1 : decode cJ5_init 1 = .ok (.bipush 11, 2) := dk_16 11 (dk_at dksJ5_init_0 1 rfl rfl)
theorem dJ5_init_3 : decode cJ5_init 3 = .ok (.ldc 67, 2) := dk_18 67 (dk_at dksJ5_init_0 3 rfl rfl)
theorem dJ5_init_5 : decode cJ5_init 5 = .ok (.invokespecial 68, 3) := dk_183 0 68 (dk_at dksJ5_init_0 5 rfl rfl)
theorem dJ5_init_8 : decode cJ5_init 8 = .ok (.return_, 1) := dk_177 (dk_at dksJ5_init_0 8 rfl rfl)
abbrev cJ5_init_2 : ByteArray := prog_23_method_1_code
def yJ5_init_2 : MethodName := ⟨RJ5, "<init>", "(IF)V"⟩
def dkwJ5_init_2_4 : List UInt8 := [189, 0, 51, 181, 0, 53, 42, 27, 134, 36, 106, 18, 57, 184, 0, 58, 139, 181, 0, 64, 177]
abbrev dktJ5_init_2_4 : List UInt8 := dkwJ5_init_2_4 ++ []
def dkwJ5_init_2_3 : List UInt8 := [182, 0, 44, 182, 0, 29, 183, 0, 33, 191, 27, 154, 0, 5, 4, 60, 42, 36, 181, 0, 47, 42, 27]
abbrev dktJ5_init_2_3 : List UInt8 := dkwJ5_init_2_3 ++ dktJ5_init_2_4
def dkwJ5_init_2_2 : List UInt8 := [184, 0, 36, 153, 0, 30, 187, 0, 15, 89, 187, 0, 17, 89, 183, 0, 19, 18, 42, 182, 0, 22, 36]
abbrev dktJ5_init_2_2 : List UInt8 := dkwJ5_init_2_2 ++ dktJ5_init_2_3
def dkwJ5_init_2_1 : List UInt8 := [18, 20, 182, 0, 22, 27, 182, 0, 26, 182, 0, 29, 183, 0, 33, 191, 36, 11, 150, 158, 0, 10, 36]
abbrev dktJ5_init_2_1 : List UInt8 := dkwJ5_init_2_1 ++ dktJ5_init_2_2
def dkwJ5_init_2_0 : List UInt8 := [42, 183, 0, 3, 42, 3, 181, 0, 9, 27, 156, 0, 30, 187, 0, 15, 89, 187, 0, 17, 89, 183, 0, 19]
abbrev dktJ5_init_2_0 : List UInt8 := dkwJ5_init_2_0 ++ dktJ5_init_2_1
theorem dksJ5_init_2_0 : cJ5_init_2.data.toList.drop 0 = dktJ5_init_2_0 := by decide +kernel
theorem dksJ5_init_2_1 : cJ5_init_2.data.toList.drop 24 = dktJ5_init_2_1 := dk_seg dksJ5_init_2_0 24 rfl rfl
theorem dksJ5_init_2_2 : cJ5_init_2.data.toList.drop 47 = dktJ5_init_2_2 := dk_seg dksJ5_init_2_1 23 rfl rfl
theorem dksJ5_init_2_3 : cJ5_init_2.data.toList.drop 70 = dktJ5_init_2_3 := dk_seg dksJ5_init_2_2 23 rfl rfl
theorem dksJ5_init_2_4 : cJ5_init_2.data.toList.drop 93 = dktJ5_init_2_4 := dk_seg dksJ5_init_2_3 23 rfl rfl
theorem dJ5_init_2_0 : decode cJ5_init_2 0 = .ok (.aload_n 0, 1) := dk_42 (dk_at dksJ5_init_2_0 0 rfl rfl)
theorem dJ5_init_2_1 : decode cJ5_init_2 1 = .ok (.invokespecial 3, 3) := dk_183 0 3 (dk_at dksJ5_init_2_0 1 rfl rfl)
theorem dJ5_init_2_4 : decode cJ5_init_2 4 = .ok (.aload_n 0, 1) := dk_42 (dk_at dksJ5_init_2_0 4 rfl rfl)
theorem dJ5_init_2_5 : decode cJ5_init_2 5 = .ok (.iconst 0, 1) := dk_3 (dk_at dksJ5_init_2_0 5 rfl rfl)
theorem dJ5_init_2_6 : decode cJ5_init_2 6 = .ok (.putfield 9, 3) := dk_181 0 9 (dk_at dksJ5_init_2_0 6 rfl rfl)
theorem dJ5_init_2_9 : decode cJ5_init_2 9 = .ok (.iload_n 1, 1) := dk_27 (dk_at dksJ5_init_2_0 9 rfl rfl)
theorem dJ5_init_2_10 : decode cJ5_init_2 10 = .ok (.ifCond .ge 30, 3) := dk_156 0 30 (dk_at dksJ5_init_2_0 10 rfl rfl)
theorem dJ5_init_2_13 : decode cJ5_init_2 13 = .ok (.new 15, 3) := dk_187 0 15 (dk_at dksJ5_init_2_0 13 rfl rfl)
theorem dJ5_init_2_16 : decode cJ5_init_2 16 = .ok (.dup, 1) := dk_89 (dk_at dksJ5_init_2_0 16 rfl rfl)
theorem dJ5_init_2_17 : decode cJ5_init_2 17 = .ok (.new 17, 3) := dk_187 0 17 (dk_at dksJ5_init_2_0 17 rfl rfl)
theorem dJ5_init_2_20 : decode cJ5_init_2 20 = .ok (.dup, 1) := dk_89 (dk_at dksJ5_init_2_0 20 rfl rfl)
theorem dJ5_init_2_21 : decode cJ5_init_2 21 = .ok (.invokespecial 19, 3) := dk_183 0 19 (dk_at dksJ5_init_2_0 21 rfl rfl)
theorem dJ5_init_2_24 : decode cJ5_init_2 24 = .ok (.ldc 20, 2) := dk_18 20 (dk_at dksJ5_init_2_1 0 rfl rfl)
theorem dJ5_init_2_26 : decode cJ5_init_2 26 = .ok (.invokevirtual 22, 3) := dk_182 0 22 (dk_at dksJ5_init_2_1 2 rfl rfl)
theorem dJ5_init_2_29 : decode cJ5_init_2 29 = .ok (.iload_n 1, 1) := dk_27 (dk_at dksJ5_init_2_1 5 rfl rfl)
theorem dJ5_init_2_30 : decode cJ5_init_2 30 = .ok (.invokevirtual 26, 3) := dk_182 0 26 (dk_at dksJ5_init_2_1 6 rfl rfl)
theorem dJ5_init_2_33 : decode cJ5_init_2 33 = .ok (.invokevirtual 29, 3) := dk_182 0 29 (dk_at dksJ5_init_2_1 9 rfl rfl)
theorem dJ5_init_2_36 : decode cJ5_init_2 36 = .ok (.invokespecial 33, 3) := dk_183 0 33 (dk_at dksJ5_init_2_1 12 rfl rfl)
theorem dJ5_init_2_39 : decode cJ5_init_2 39 = .ok (.athrow, 1) := dk_191 (dk_at dksJ5_init_2_1 15 rfl rfl)
theorem dJ5_init_2_40 : decode cJ5_init_2 40 = .ok (.fload_n 2, 1) := dk_36 (dk_at dksJ5_init_2_1 16 rfl rfl)
theorem dJ5_init_2_41 : decode cJ5_init_2 41 = .ok (.fconst 0, 1) := dk_11 (dk_at dksJ5_init_2_1 17 rfl rfl)
theorem dJ5_init_2_42 : decode cJ5_init_2 42 = .ok (.fcmp .g, 1) := dk_150 (dk_at dksJ5_init_2_1 18 rfl rfl)
theorem dJ5_init_2_43 : decode cJ5_init_2 43 = .ok (.ifCond .le 10, 3) := dk_158 0 10 (dk_at dksJ5_init_2_1 19 rfl rfl)
theorem dJ5_init_2_46 : decode cJ5_init_2 46 = .ok (.fload_n 2, 1) := dk_36 (dk_at dksJ5_init_2_1 22 rfl rfl)
theorem dJ5_init_2_47 : decode cJ5_init_2 47 = .ok (.invokestatic 36, 3) := dk_184 0 36 (dk_at dksJ5_init_2_2 0 rfl rfl)
theorem dJ5_init_2_50 : decode cJ5_init_2 50 = .ok (.ifCond .eq 30, 3) := dk_153 0 30 (dk_at dksJ5_init_2_2 3 rfl rfl)
theorem dJ5_init_2_53 : decode cJ5_init_2 53 = .ok (.new 15, 3) := dk_187 0 15 (dk_at dksJ5_init_2_2 6 rfl rfl)
theorem dJ5_init_2_56 : decode cJ5_init_2 56 = .ok (.dup, 1) := dk_89 (dk_at dksJ5_init_2_2 9 rfl rfl)
theorem dJ5_init_2_57 : decode cJ5_init_2 57 = .ok (.new 17, 3) := dk_187 0 17 (dk_at dksJ5_init_2_2 10 rfl rfl)
theorem dJ5_init_2_60 : decode cJ5_init_2 60 = .ok (.dup, 1) := dk_89 (dk_at dksJ5_init_2_2 13 rfl rfl)
theorem dJ5_init_2_61 : decode cJ5_init_2 61 = .ok (.invokespecial 19, 3) := dk_183 0 19 (dk_at dksJ5_init_2_2 14 rfl rfl)
theorem dJ5_init_2_64 : decode cJ5_init_2 64 = .ok (.ldc 42, 2) := dk_18 42 (dk_at dksJ5_init_2_2 17 rfl rfl)
theorem dJ5_init_2_66 : decode cJ5_init_2 66 = .ok (.invokevirtual 22, 3) := dk_182 0 22 (dk_at dksJ5_init_2_2 19 rfl rfl)
theorem dJ5_init_2_69 : decode cJ5_init_2 69 = .ok (.fload_n 2, 1) := dk_36 (dk_at dksJ5_init_2_2 22 rfl rfl)
theorem dJ5_init_2_70 : decode cJ5_init_2 70 = .ok (.invokevirtual 44, 3) := dk_182 0 44 (dk_at dksJ5_init_2_3 0 rfl rfl)
theorem dJ5_init_2_73 : decode cJ5_init_2 73 = .ok (.invokevirtual 29, 3) := dk_182 0 29 (dk_at dksJ5_init_2_3 3 rfl rfl)
theorem dJ5_init_2_76 : decode cJ5_init_2 76 = .ok (.invokespecial 33, 3) := dk_183 0 33 (dk_at dksJ5_init_2_3 6 rfl rfl)
theorem dJ5_init_2_79 : decode cJ5_init_2 79 = .ok (.athrow, 1) := dk_191 (dk_at dksJ5_init_2_3 9 rfl rfl)
theorem dJ5_init_2_80 : decode cJ5_init_2 80 = .ok (.iload_n 1, 1) := dk_27 (dk_at dksJ5_init_2_3 10 rfl rfl)
theorem dJ5_init_2_81 : decode cJ5_init_2 81 = .ok (.ifCond .ne 5, 3) := dk_154 0 5 (dk_at dksJ5_init_2_3 11 rfl rfl)
theorem dJ5_init_2_84 : decode cJ5_init_2 84 = .ok (.iconst 1, 1) := dk_4 (dk_at dksJ5_init_2_3 14 rfl rfl)
theorem dJ5_init_2_85 : decode cJ5_init_2 85 = .ok (.istore_n 1, 1) := dk_60 (dk_at dksJ5_init_2_3 15 rfl rfl)
theorem dJ5_init_2_86 : decode cJ5_init_2 86 = .ok (.aload_n 0, 1) := dk_42 (dk_at dksJ5_init_2_3 16 rfl rfl)
theorem dJ5_init_2_87 : decode cJ5_init_2 87 = .ok (.fload_n 2, 1) := dk_36 (dk_at dksJ5_init_2_3 17 rfl rfl)
theorem dJ5_init_2_88 : decode cJ5_init_2 88 = .ok (.putfield 47, 3) := dk_181 0 47 (dk_at dksJ5_init_2_3 18 rfl rfl)
theorem dJ5_init_2_91 : decode cJ5_init_2 91 = .ok (.aload_n 0, 1) := dk_42 (dk_at dksJ5_init_2_3 21 rfl rfl)
theorem dJ5_init_2_92 : decode cJ5_init_2 92 = .ok (.iload_n 1, 1) := dk_27 (dk_at dksJ5_init_2_3 22 rfl rfl)
theorem dJ5_init_2_93 : decode cJ5_init_2 93 = .ok (.anewarray 51, 3) := dk_189 0 51 (dk_at dksJ5_init_2_4 0 rfl rfl)
theorem dJ5_init_2_96 : decode cJ5_init_2 96 = .ok (.putfield 53, 3) := dk_181 0 53 (dk_at dksJ5_init_2_4 3 rfl rfl)
theorem dJ5_init_2_99 : decode cJ5_init_2 99 = .ok (.aload_n 0, 1) := dk_42 (dk_at dksJ5_init_2_4 6 rfl rfl)
theorem dJ5_init_2_100 : decode cJ5_init_2 100 = .ok (.iload_n 1, 1) := dk_27 (dk_at dksJ5_init_2_4 7 rfl rfl)
theorem dJ5_init_2_101 : decode cJ5_init_2 101 = .ok (.i2f, 1) := dk_134 (dk_at dksJ5_init_2_4 8 rfl rfl)
theorem dJ5_init_2_102 : decode cJ5_init_2 102 = .ok (.fload_n 2, 1) := dk_36 (dk_at dksJ5_init_2_4 9 rfl rfl)
theorem dJ5_init_2_103 : decode cJ5_init_2 103 = .ok (.fmul, 1) := dk_106 (dk_at dksJ5_init_2_4 10 rfl rfl)
theorem dJ5_init_2_104 : decode cJ5_init_2 104 = .ok (.ldc 57, 2) := dk_18 57 (dk_at dksJ5_init_2_4 11 rfl rfl)
theorem dJ5_init_2_106 : decode cJ5_init_2 106 = .ok (.invokestatic 58, 3) := dk_184 0 58 (dk_at dksJ5_init_2_4 13 rfl rfl)
theorem dJ5_init_2_109 : decode cJ5_init_2 109 = .ok (.f2i, 1) := dk_139 (dk_at dksJ5_init_2_4 16 rfl rfl)
theorem dJ5_init_2_110 : decode cJ5_init_2 110 = .ok (.putfield 64, 3) := dk_181 0 64 (dk_at dksJ5_init_2_4 17 rfl rfl)
theorem dJ5_init_2_113 : decode cJ5_init_2 113 = .ok (.return_, 1) := dk_177 (dk_at dksJ5_init_2_4 20 rfl rfl)
abbrev cJ5_addEntry : ByteArray := prog_23_method_15_code
def yJ5_addEntry : MethodName := ⟨RJ5, "addEntry", "(ILjava/lang/Object;Ljava/lang/Object;I)V"⟩
def dkwJ5_addEntry_3 : List UInt8 := [180, 0, 85, 4, 96, 181, 0, 85, 42, 89, 180, 0, 9, 4, 96, 181, 0, 9, 177]
abbrev dktJ5_addEntry_3 : List UInt8 := dkwJ5_addEntry_3 ++ []
def dkwJ5_addEntry_2 : List UInt8 := [50, 58, 6, 25, 5, 21, 4, 187, 0, 51, 89, 27, 44, 45, 25, 6, 183, 0, 126, 83, 42, 89]
abbrev dktJ5_addEntry_2 : List UInt8 := dkwJ5_addEntry_2 ++ dktJ5_addEntry_3
def dkwJ5_addEntry_1 : List UInt8 := [180, 0, 53, 58, 5, 44, 182, 0, 112, 60, 27, 18, 115, 126, 25, 5, 190, 112, 54, 4, 25, 5, 21, 4]
abbrev dktJ5_addEntry_1 : List UInt8 := dkwJ5_addEntry_1 ++ dktJ5_addEntry_2
def dkwJ5_addEntry_0 : List UInt8 := [42, 180, 0, 53, 58, 5, 42, 180, 0, 85, 42, 180, 0, 64, 161, 0, 28, 42, 182, 0, 123, 42]
abbrev dktJ5_addEntry_0 : List UInt8 := dkwJ5_addEntry_0 ++ dktJ5_addEntry_1
theorem dksJ5_addEntry_0 : cJ5_addEntry.data.toList.drop 0 = dktJ5_addEntry_0 := by decide +kernel
theorem dksJ5_addEntry_1 : cJ5_addEntry.data.toList.drop 22 = dktJ5_addEntry_1 := dk_seg dksJ5_addEntry_0 22 rfl rfl
theorem dksJ5_addEntry_2 : cJ5_addEntry.data.toList.drop 46 = dktJ5_addEntry_2 := dk_seg dksJ5_addEntry_1 24 rfl rfl
theorem dksJ5_addEntry_3 : cJ5_addEntry.data.toList.drop 68 = dktJ5_addEntry_3 := dk_seg dksJ5_addEntry_2 22 rfl rfl
theorem dJ5_addEntry_0 : decode cJ5_addEntry 0 = .ok (.aload_n 0, 1) := dk_42 (dk_at dksJ5_addEntry_0 0 rfl rfl)
theorem dJ5_addEntry_1 : decode cJ5_addEntry 1 = .ok (.getfield 53, 3) := dk_180 0 53 (dk_at dksJ5_addEntry_0 1 rfl rfl)
theorem dJ5_addEntry_4 : decode cJ5_addEntry 4 = .ok (.astore 5, 2) := dk_58 5 (dk_at dksJ5_addEntry_0 4 rfl rfl)
theorem dJ5_addEntry_6 : decode cJ5_addEntry 6 = .ok (.aload_n 0, 1) := dk_42 (dk_at dksJ5_addEntry_0 6 rfl rfl)
theorem dJ5_addEntry_7 : decode cJ5_addEntry 7 = .ok (.getfield 85, 3) := dk_180 0 85 (dk_at dksJ5_addEntry_0 7 rfl rfl)
theorem dJ5_addEntry_10 : decode cJ5_addEntry 10 = .ok (.aload_n 0, 1) := dk_42 (dk_at dksJ5_addEntry_0 10 rfl rfl)
theorem dJ5_addEntry_11 : decode cJ5_addEntry 11 = .ok (.getfield 64, 3) := dk_180 0 64 (dk_at dksJ5_addEntry_0 11 rfl rfl)
theorem dJ5_addEntry_14 : decode cJ5_addEntry 14 = .ok (.if_icmp .lt 28, 3) := dk_161 0 28 (dk_at dksJ5_addEntry_0 14 rfl rfl)
theorem dJ5_addEntry_17 : decode cJ5_addEntry 17 = .ok (.aload_n 0, 1) := dk_42 (dk_at dksJ5_addEntry_0 17 rfl rfl)
theorem dJ5_addEntry_18 : decode cJ5_addEntry 18 = .ok (.invokevirtual 123, 3) := dk_182 0 123 (dk_at dksJ5_addEntry_0 18 rfl rfl)
theorem dJ5_addEntry_21 : decode cJ5_addEntry 21 = .ok (.aload_n 0, 1) := dk_42 (dk_at dksJ5_addEntry_0 21 rfl rfl)
theorem dJ5_addEntry_22 : decode cJ5_addEntry 22 = .ok (.getfield 53, 3) := dk_180 0 53 (dk_at dksJ5_addEntry_1 0 rfl rfl)
theorem dJ5_addEntry_25 : decode cJ5_addEntry 25 = .ok (.astore 5, 2) := dk_58 5 (dk_at dksJ5_addEntry_1 3 rfl rfl)
theorem dJ5_addEntry_27 : decode cJ5_addEntry 27 = .ok (.aload_n 2, 1) := dk_44 (dk_at dksJ5_addEntry_1 5 rfl rfl)
theorem dJ5_addEntry_28 : decode cJ5_addEntry 28 = .ok (.invokevirtual 112, 3) := dk_182 0 112 (dk_at dksJ5_addEntry_1 6 rfl rfl)
theorem dJ5_addEntry_31 : decode cJ5_addEntry 31 = .ok (.istore_n 1, 1) := dk_60 (dk_at dksJ5_addEntry_1 9 rfl rfl)
theorem dJ5_addEntry_32 : decode cJ5_addEntry 32 = .ok (.iload_n 1, 1) := dk_27 (dk_at dksJ5_addEntry_1 10 rfl rfl)
theorem dJ5_addEntry_33 : decode cJ5_addEntry 33 = .ok (.ldc 115, 2) := dk_18 115 (dk_at dksJ5_addEntry_1 11 rfl rfl)
theorem dJ5_addEntry_35 : decode cJ5_addEntry 35 = .ok (.iand, 1) := dk_126 (dk_at dksJ5_addEntry_1 13 rfl rfl)
theorem dJ5_addEntry_36 : decode cJ5_addEntry 36 = .ok (.aload 5, 2) := dk_25 5 (dk_at dksJ5_addEntry_1 14 rfl rfl)
theorem dJ5_addEntry_38 : decode cJ5_addEntry 38 = .ok (.arraylength, 1) := dk_190 (dk_at dksJ5_addEntry_1 16 rfl rfl)
theorem dJ5_addEntry_39 : decode cJ5_addEntry 39 = .ok (.irem, 1) := dk_112 (dk_at dksJ5_addEntry_1 17 rfl rfl)
theorem dJ5_addEntry_40 : decode cJ5_addEntry 40 = .ok (.istore 4, 2) := dk_54 4 (dk_at dksJ5_addEntry_1 18 rfl rfl)
theorem dJ5_addEntry_42 : decode cJ5_addEntry 42 = .ok (.aload 5, 2) := dk_25 5 (dk_at dksJ5_addEntry_1 20 rfl rfl)
theorem dJ5_addEntry_44 : decode cJ5_addEntry 44 = .ok (.iload 4, 2) := dk_21 4 (dk_at dksJ5_addEntry_1 22 rfl rfl)
theorem dJ5_addEntry_46 : decode cJ5_addEntry 46 = .ok (.aaload, 1) := dk_50 (dk_at dksJ5_addEntry_2 0 rfl rfl)
theorem dJ5_addEntry_47 : decode cJ5_addEntry 47 = .ok (.astore 6, 2) := dk_58 6 (dk_at dksJ5_addEntry_2 1 rfl rfl)
theorem dJ5_addEntry_49 : decode cJ5_addEntry 49 = .ok (.aload 5, 2) := dk_25 5 (dk_at dksJ5_addEntry_2 3 rfl rfl)
theorem dJ5_addEntry_51 : decode cJ5_addEntry 51 = .ok (.iload 4, 2) := dk_21 4 (dk_at dksJ5_addEntry_2 5 rfl rfl)
theorem dJ5_addEntry_53 : decode cJ5_addEntry 53 = .ok (.new 51, 3) := dk_187 0 51 (dk_at dksJ5_addEntry_2 7 rfl rfl)
theorem dJ5_addEntry_56 : decode cJ5_addEntry 56 = .ok (.dup, 1) := dk_89 (dk_at dksJ5_addEntry_2 10 rfl rfl)
theorem dJ5_addEntry_57 : decode cJ5_addEntry 57 = .ok (.iload_n 1, 1) := dk_27 (dk_at dksJ5_addEntry_2 11 rfl rfl)
theorem dJ5_addEntry_58 : decode cJ5_addEntry 58 = .ok (.aload_n 2, 1) := dk_44 (dk_at dksJ5_addEntry_2 12 rfl rfl)
theorem dJ5_addEntry_59 : decode cJ5_addEntry 59 = .ok (.aload_n 3, 1) := dk_45 (dk_at dksJ5_addEntry_2 13 rfl rfl)
theorem dJ5_addEntry_60 : decode cJ5_addEntry 60 = .ok (.aload 6, 2) := dk_25 6 (dk_at dksJ5_addEntry_2 14 rfl rfl)
theorem dJ5_addEntry_62 : decode cJ5_addEntry 62 = .ok (.invokespecial 126, 3) := dk_183 0 126 (dk_at dksJ5_addEntry_2 16 rfl rfl)
theorem dJ5_addEntry_65 : decode cJ5_addEntry 65 = .ok (.aastore, 1) := dk_83 (dk_at dksJ5_addEntry_2 19 rfl rfl)
theorem dJ5_addEntry_66 : decode cJ5_addEntry 66 = .ok (.aload_n 0, 1) := dk_42 (dk_at dksJ5_addEntry_2 20 rfl rfl)
theorem dJ5_addEntry_67 : decode cJ5_addEntry 67 = .ok (.dup, 1) := dk_89 (dk_at dksJ5_addEntry_2 21 rfl rfl)
theorem dJ5_addEntry_68 : decode cJ5_addEntry 68 = .ok (.getfield 85, 3) := dk_180 0 85 (dk_at dksJ5_addEntry_3 0 rfl rfl)
theorem dJ5_addEntry_71 : decode cJ5_addEntry 71 = .ok (.iconst 1, 1) := dk_4 (dk_at dksJ5_addEntry_3 3 rfl rfl)
theorem dJ5_addEntry_72 : decode cJ5_addEntry 72 = .ok (.iadd, 1) := dk_96 (dk_at dksJ5_addEntry_3 4 rfl rfl)
theorem dJ5_addEntry_73 : decode cJ5_addEntry 73 = .ok (.putfield 85, 3) := dk_181 0 85 (dk_at dksJ5_addEntry_3 5 rfl rfl)
theorem dJ5_addEntry_76 : decode cJ5_addEntry 76 = .ok (.aload_n 0, 1) := dk_42 (dk_at dksJ5_addEntry_3 8 rfl rfl)
theorem dJ5_addEntry_77 : decode cJ5_addEntry 77 = .ok (.dup, 1) := dk_89 (dk_at dksJ5_addEntry_3 9 rfl rfl)
theorem dJ5_addEntry_78 : decode cJ5_addEntry 78 = .ok (.getfield 9, 3) := dk_180 0 9 (dk_at dksJ5_addEntry_3 10 rfl rfl)
theorem dJ5_addEntry_81 : decode cJ5_addEntry 81 = .ok (.iconst 1, 1) := dk_4 (dk_at dksJ5_addEntry_3 13 rfl rfl)
theorem dJ5_addEntry_82 : decode cJ5_addEntry 82 = .ok (.iadd, 1) := dk_96 (dk_at dksJ5_addEntry_3 14 rfl rfl)
theorem dJ5_addEntry_83 : decode cJ5_addEntry 83 = .ok (.putfield 9, 3) := dk_181 0 9 (dk_at dksJ5_addEntry_3 15 rfl rfl)
theorem dJ5_addEntry_86 : decode cJ5_addEntry 86 = .ok (.return_, 1) := dk_177 (dk_at dksJ5_addEntry_3 18 rfl rfl)
abbrev cJ5_rehash : ByteArray := prog_23_method_14_code
def yJ5_rehash : MethodName := ⟨RJ5, "rehash", "()V"⟩
def dkwJ5_rehash_6 : List UInt8 := [167, 255, 194, 177]
abbrev dktJ5_rehash_6 : List UInt8 := dkwJ5_rehash_6 ++ []
def dkwJ5_rehash_5 : List UInt8 := [54, 8, 25, 7, 25, 4, 21, 8, 50, 181, 0, 105, 25, 4, 21, 8, 25, 7, 83, 167, 255, 211]
abbrev dktJ5_rehash_5 : List UInt8 := dkwJ5_rehash_5 ++ dktJ5_rehash_6
def dkwJ5_rehash_4 : List UInt8 := [198, 0, 46, 25, 6, 58, 7, 25, 6, 180, 0, 105, 58, 6, 25, 7, 180, 0, 116, 18, 115, 126, 29, 112]
abbrev dktJ5_rehash_4 : List UInt8 := dkwJ5_rehash_4 ++ dktJ5_rehash_5
def dkwJ5_rehash_3 : List UInt8 := [181, 0, 53, 27, 54, 5, 21, 5, 132, 5, 255, 158, 0, 60, 44, 21, 5, 50, 58, 6, 25, 6]
abbrev dktJ5_rehash_3 : List UInt8 := dkwJ5_rehash_3 ++ dktJ5_rehash_4
def dkwJ5_rehash_2 : List UInt8 := [181, 0, 9, 42, 29, 134, 42, 180, 0, 47, 106, 18, 57, 184, 0, 58, 139, 181, 0, 64, 42, 25, 4]
abbrev dktJ5_rehash_2 : List UInt8 := dkwJ5_rehash_2 ++ dktJ5_rehash_3
def dkwJ5_rehash_1 : List UInt8 := [27, 18, 122, 160, 0, 4, 177, 18, 122, 62, 29, 189, 0, 51, 58, 4, 42, 89, 180, 0, 9, 4, 96]
abbrev dktJ5_rehash_1 : List UInt8 := dkwJ5_rehash_1 ++ dktJ5_rehash_2
def dkwJ5_rehash_0 : List UInt8 := [42, 180, 0, 53, 190, 60, 42, 180, 0, 53, 77, 27, 4, 120, 4, 96, 62, 29, 18, 122, 100, 158, 0, 13]
abbrev dktJ5_rehash_0 : List UInt8 := dkwJ5_rehash_0 ++ dktJ5_rehash_1
theorem dksJ5_rehash_0 : cJ5_rehash.data.toList.drop 0 = dktJ5_rehash_0 := by decide +kernel
theorem dksJ5_rehash_1 : cJ5_rehash.data.toList.drop 24 = dktJ5_rehash_1 := dk_seg dksJ5_rehash_0 24 rfl rfl
theorem dksJ5_rehash_2 : cJ5_rehash.data.toList.drop 47 = dktJ5_rehash_2 := dk_seg dksJ5_rehash_1 23 rfl rfl
theorem dksJ5_rehash_3 : cJ5_rehash.data.toList.drop 70 = dktJ5_rehash_3 := dk_seg dksJ5_rehash_2 23 rfl rfl
theorem dksJ5_rehash_4 : cJ5_rehash.data.toList.drop 92 = dktJ5_rehash_4 := dk_seg dksJ5_rehash_3 22 rfl rfl
theorem dksJ5_rehash_5 : cJ5_rehash.data.toList.drop 116 = dktJ5_rehash_5 := dk_seg dksJ5_rehash_4 24 rfl rfl
theorem dksJ5_rehash_6 : cJ5_rehash.data.toList.drop 138 = dktJ5_rehash_6 := dk_seg dksJ5_rehash_5 22 rfl rfl
theorem dJ5_rehash_0 : decode cJ5_rehash 0 = .ok (.aload_n 0, 1) := dk_42 (dk_at dksJ5_rehash_0 0 rfl rfl)
theorem dJ5_rehash_1 : decode cJ5_rehash 1 = .ok (.getfield 53, 3) := dk_180 0 53 (dk_at dksJ5_rehash_0 1 rfl rfl)
theorem dJ5_rehash_4 : decode cJ5_rehash 4 = .ok (.arraylength, 1) := dk_190 (dk_at dksJ5_rehash_0 4 rfl rfl)
theorem dJ5_rehash_5 : decode cJ5_rehash 5 = .ok (.istore_n 1, 1) := dk_60 (dk_at dksJ5_rehash_0 5 rfl rfl)
theorem dJ5_rehash_6 : decode cJ5_rehash 6 = .ok (.aload_n 0, 1) := dk_42 (dk_at dksJ5_rehash_0 6 rfl rfl)
theorem dJ5_rehash_7 : decode cJ5_rehash 7 = .ok (.getfield 53, 3) := dk_180 0 53 (dk_at dksJ5_rehash_0 7 rfl rfl)
theorem dJ5_rehash_10 : decode cJ5_rehash 10 = .ok (.astore_n 2, 1) := dk_77 (dk_at dksJ5_rehash_0 10 rfl rfl)
theorem dJ5_rehash_11 : decode cJ5_rehash 11 = .ok (.iload_n 1, 1) := dk_27 (dk_at dksJ5_rehash_0 11 rfl rfl)
theorem dJ5_rehash_12 : decode cJ5_rehash 12 = .ok (.iconst 1, 1) := dk_4 (dk_at dksJ5_rehash_0 12 rfl rfl)
theorem dJ5_rehash_13 : decode cJ5_rehash 13 = .ok (.ishl, 1) := dk_120 (dk_at dksJ5_rehash_0 13 rfl rfl)
theorem dJ5_rehash_14 : decode cJ5_rehash 14 = .ok (.iconst 1, 1) := dk_4 (dk_at dksJ5_rehash_0 14 rfl rfl)
theorem dJ5_rehash_15 : decode cJ5_rehash 15 = .ok (.iadd, 1) := dk_96 (dk_at dksJ5_rehash_0 15 rfl rfl)
theorem dJ5_rehash_16 : decode cJ5_rehash 16 = .ok (.istore_n 3, 1) := dk_62 (dk_at dksJ5_rehash_0 16 rfl rfl)
theorem dJ5_rehash_17 : decode cJ5_rehash 17 = .ok (.iload_n 3, 1) := dk_29 (dk_at dksJ5_rehash_0 17 rfl rfl)
theorem dJ5_rehash_18 : decode cJ5_rehash 18 = .ok (.ldc 122, 2) := dk_18 122 (dk_at dksJ5_rehash_0 18 rfl rfl)
theorem dJ5_rehash_20 : decode cJ5_rehash 20 = .ok (.isub, 1) := dk_100 (dk_at dksJ5_rehash_0 20 rfl rfl)
theorem dJ5_rehash_21 : decode cJ5_rehash 21 = .ok (.ifCond .le 13, 3) := dk_158 0 13 (dk_at dksJ5_rehash_0 21 rfl rfl)
theorem dJ5_rehash_24 : decode cJ5_rehash 24 = .ok (.iload_n 1, 1) := dk_27 (dk_at dksJ5_rehash_1 0 rfl rfl)
theorem dJ5_rehash_25 : decode cJ5_rehash 25 = .ok (.ldc 122, 2) := dk_18 122 (dk_at dksJ5_rehash_1 1 rfl rfl)
theorem dJ5_rehash_27 : decode cJ5_rehash 27 = .ok (.if_icmp .ne 4, 3) := dk_160 0 4 (dk_at dksJ5_rehash_1 3 rfl rfl)
theorem dJ5_rehash_30 : decode cJ5_rehash 30 = .ok (.return_, 1) := dk_177 (dk_at dksJ5_rehash_1 6 rfl rfl)
theorem dJ5_rehash_31 : decode cJ5_rehash 31 = .ok (.ldc 122, 2) := dk_18 122 (dk_at dksJ5_rehash_1 7 rfl rfl)
theorem dJ5_rehash_33 : decode cJ5_rehash 33 = .ok (.istore_n 3, 1) := dk_62 (dk_at dksJ5_rehash_1 9 rfl rfl)
theorem dJ5_rehash_34 : decode cJ5_rehash 34 = .ok (.iload_n 3, 1) := dk_29 (dk_at dksJ5_rehash_1 10 rfl rfl)
theorem dJ5_rehash_35 : decode cJ5_rehash 35 = .ok (.anewarray 51, 3) := dk_189 0 51 (dk_at dksJ5_rehash_1 11 rfl rfl)
theorem dJ5_rehash_38 : decode cJ5_rehash 38 = .ok (.astore 4, 2) := dk_58 4 (dk_at dksJ5_rehash_1 14 rfl rfl)
theorem dJ5_rehash_40 : decode cJ5_rehash 40 = .ok (.aload_n 0, 1) := dk_42 (dk_at dksJ5_rehash_1 16 rfl rfl)
theorem dJ5_rehash_41 : decode cJ5_rehash 41 = .ok (.dup, 1) := dk_89 (dk_at dksJ5_rehash_1 17 rfl rfl)
theorem dJ5_rehash_42 : decode cJ5_rehash 42 = .ok (.getfield 9, 3) := dk_180 0 9 (dk_at dksJ5_rehash_1 18 rfl rfl)
theorem dJ5_rehash_45 : decode cJ5_rehash 45 = .ok (.iconst 1, 1) := dk_4 (dk_at dksJ5_rehash_1 21 rfl rfl)
theorem dJ5_rehash_46 : decode cJ5_rehash 46 = .ok (.iadd, 1) := dk_96 (dk_at dksJ5_rehash_1 22 rfl rfl)
theorem dJ5_rehash_47 : decode cJ5_rehash 47 = .ok (.putfield 9, 3) := dk_181 0 9 (dk_at dksJ5_rehash_2 0 rfl rfl)
theorem dJ5_rehash_50 : decode cJ5_rehash 50 = .ok (.aload_n 0, 1) := dk_42 (dk_at dksJ5_rehash_2 3 rfl rfl)
theorem dJ5_rehash_51 : decode cJ5_rehash 51 = .ok (.iload_n 3, 1) := dk_29 (dk_at dksJ5_rehash_2 4 rfl rfl)
theorem dJ5_rehash_52 : decode cJ5_rehash 52 = .ok (.i2f, 1) := dk_134 (dk_at dksJ5_rehash_2 5 rfl rfl)
theorem dJ5_rehash_53 : decode cJ5_rehash 53 = .ok (.aload_n 0, 1) := dk_42 (dk_at dksJ5_rehash_2 6 rfl rfl)
theorem dJ5_rehash_54 : decode cJ5_rehash 54 = .ok (.getfield 47, 3) := dk_180 0 47 (dk_at dksJ5_rehash_2 7 rfl rfl)
theorem dJ5_rehash_57 : decode cJ5_rehash 57 = .ok (.fmul, 1) := dk_106 (dk_at dksJ5_rehash_2 10 rfl rfl)
theorem dJ5_rehash_58 : decode cJ5_rehash 58 = .ok (.ldc 57, 2) := dk_18 57 (dk_at dksJ5_rehash_2 11 rfl rfl)
theorem dJ5_rehash_60 : decode cJ5_rehash 60 = .ok (.invokestatic 58, 3) := dk_184 0 58 (dk_at dksJ5_rehash_2 13 rfl rfl)
theorem dJ5_rehash_63 : decode cJ5_rehash 63 = .ok (.f2i, 1) := dk_139 (dk_at dksJ5_rehash_2 16 rfl rfl)
theorem dJ5_rehash_64 : decode cJ5_rehash 64 = .ok (.putfield 64, 3) := dk_181 0 64 (dk_at dksJ5_rehash_2 17 rfl rfl)
theorem dJ5_rehash_67 : decode cJ5_rehash 67 = .ok (.aload_n 0, 1) := dk_42 (dk_at dksJ5_rehash_2 20 rfl rfl)
theorem dJ5_rehash_68 : decode cJ5_rehash 68 = .ok (.aload 4, 2) := dk_25 4 (dk_at dksJ5_rehash_2 21 rfl rfl)
theorem dJ5_rehash_70 : decode cJ5_rehash 70 = .ok (.putfield 53, 3) := dk_181 0 53 (dk_at dksJ5_rehash_3 0 rfl rfl)
theorem dJ5_rehash_73 : decode cJ5_rehash 73 = .ok (.iload_n 1, 1) := dk_27 (dk_at dksJ5_rehash_3 3 rfl rfl)
theorem dJ5_rehash_74 : decode cJ5_rehash 74 = .ok (.istore 5, 2) := dk_54 5 (dk_at dksJ5_rehash_3 4 rfl rfl)
theorem dJ5_rehash_76 : decode cJ5_rehash 76 = .ok (.iload 5, 2) := dk_21 5 (dk_at dksJ5_rehash_3 6 rfl rfl)
theorem dJ5_rehash_78 : decode cJ5_rehash 78 = .ok (.iinc 5 (-1), 3) := dk_132 5 255 (dk_at dksJ5_rehash_3 8 rfl rfl)
theorem dJ5_rehash_81 : decode cJ5_rehash 81 = .ok (.ifCond .le 60, 3) := dk_158 0 60 (dk_at dksJ5_rehash_3 11 rfl rfl)
theorem dJ5_rehash_84 : decode cJ5_rehash 84 = .ok (.aload_n 2, 1) := dk_44 (dk_at dksJ5_rehash_3 14 rfl rfl)
theorem dJ5_rehash_85 : decode cJ5_rehash 85 = .ok (.iload 5, 2) := dk_21 5 (dk_at dksJ5_rehash_3 15 rfl rfl)
theorem dJ5_rehash_87 : decode cJ5_rehash 87 = .ok (.aaload, 1) := dk_50 (dk_at dksJ5_rehash_3 17 rfl rfl)
theorem dJ5_rehash_88 : decode cJ5_rehash 88 = .ok (.astore 6, 2) := dk_58 6 (dk_at dksJ5_rehash_3 18 rfl rfl)
theorem dJ5_rehash_90 : decode cJ5_rehash 90 = .ok (.aload 6, 2) := dk_25 6 (dk_at dksJ5_rehash_3 20 rfl rfl)
theorem dJ5_rehash_92 : decode cJ5_rehash 92 = .ok (.ifnull 46, 3) := dk_198 0 46 (dk_at dksJ5_rehash_4 0 rfl rfl)
theorem dJ5_rehash_95 : decode cJ5_rehash 95 = .ok (.aload 6, 2) := dk_25 6 (dk_at dksJ5_rehash_4 3 rfl rfl)
theorem dJ5_rehash_97 : decode cJ5_rehash 97 = .ok (.astore 7, 2) := dk_58 7 (dk_at dksJ5_rehash_4 5 rfl rfl)
theorem dJ5_rehash_99 : decode cJ5_rehash 99 = .ok (.aload 6, 2) := dk_25 6 (dk_at dksJ5_rehash_4 7 rfl rfl)
theorem dJ5_rehash_101 : decode cJ5_rehash 101 = .ok (.getfield 105, 3) := dk_180 0 105 (dk_at dksJ5_rehash_4 9 rfl rfl)
theorem dJ5_rehash_104 : decode cJ5_rehash 104 = .ok (.astore 6, 2) := dk_58 6 (dk_at dksJ5_rehash_4 12 rfl rfl)
theorem dJ5_rehash_106 : decode cJ5_rehash 106 = .ok (.aload 7, 2) := dk_25 7 (dk_at dksJ5_rehash_4 14 rfl rfl)
theorem dJ5_rehash_108 : decode cJ5_rehash 108 = .ok (.getfield 116, 3) := dk_180 0 116 (dk_at dksJ5_rehash_4 16 rfl rfl)
theorem dJ5_rehash_111 : decode cJ5_rehash 111 = .ok (.ldc 115, 2) := dk_18 115 (dk_at dksJ5_rehash_4 19 rfl rfl)
theorem dJ5_rehash_113 : decode cJ5_rehash 113 = .ok (.iand, 1) := dk_126 (dk_at dksJ5_rehash_4 21 rfl rfl)
theorem dJ5_rehash_114 : decode cJ5_rehash 114 = .ok (.iload_n 3, 1) := dk_29 (dk_at dksJ5_rehash_4 22 rfl rfl)
theorem dJ5_rehash_115 : decode cJ5_rehash 115 = .ok (.irem, 1) := dk_112 (dk_at dksJ5_rehash_4 23 rfl rfl)
theorem dJ5_rehash_116 : decode cJ5_rehash 116 = .ok (.istore 8, 2) := dk_54 8 (dk_at dksJ5_rehash_5 0 rfl rfl)
theorem dJ5_rehash_118 : decode cJ5_rehash 118 = .ok (.aload 7, 2) := dk_25 7 (dk_at dksJ5_rehash_5 2 rfl rfl)
theorem dJ5_rehash_120 : decode cJ5_rehash 120 = .ok (.aload 4, 2) := dk_25 4 (dk_at dksJ5_rehash_5 4 rfl rfl)
theorem dJ5_rehash_122 : decode cJ5_rehash 122 = .ok (.iload 8, 2) := dk_21 8 (dk_at dksJ5_rehash_5 6 rfl rfl)
theorem dJ5_rehash_124 : decode cJ5_rehash 124 = .ok (.aaload, 1) := dk_50 (dk_at dksJ5_rehash_5 8 rfl rfl)
theorem dJ5_rehash_125 : decode cJ5_rehash 125 = .ok (.putfield 105, 3) := dk_181 0 105 (dk_at dksJ5_rehash_5 9 rfl rfl)
theorem dJ5_rehash_128 : decode cJ5_rehash 128 = .ok (.aload 4, 2) := dk_25 4 (dk_at dksJ5_rehash_5 12 rfl rfl)
theorem dJ5_rehash_130 : decode cJ5_rehash 130 = .ok (.iload 8, 2) := dk_21 8 (dk_at dksJ5_rehash_5 14 rfl rfl)
theorem dJ5_rehash_132 : decode cJ5_rehash 132 = .ok (.aload 7, 2) := dk_25 7 (dk_at dksJ5_rehash_5 16 rfl rfl)
theorem dJ5_rehash_134 : decode cJ5_rehash 134 = .ok (.aastore, 1) := dk_83 (dk_at dksJ5_rehash_5 18 rfl rfl)
theorem dJ5_rehash_135 : decode cJ5_rehash 135 = .ok (.goto (-45), 3) := dk_167 255 211 (dk_at dksJ5_rehash_5 19 rfl rfl)
theorem dJ5_rehash_138 : decode cJ5_rehash 138 = .ok (.goto (-62), 3) := dk_167 255 194 (dk_at dksJ5_rehash_6 0 rfl rfl)
theorem dJ5_rehash_141 : decode cJ5_rehash 141 = .ok (.return_, 1) := dk_177 (dk_at dksJ5_rehash_6 3 rfl rfl)
abbrev cJ5_getEnumeration : ByteArray := prog_23_method_23_code
def yJ5_getEnumeration : MethodName := ⟨RJ5, "getEnumeration", "(I)Ljava/util/Enumeration;"⟩
def dkwJ5_getEnumeration_0 : List UInt8 := [42, 180, 0, 85, 154, 0, 7, 184, 0, 201, 176, 187, 0, 207, 89, 42, 27, 3, 183, 0, 209, 176]
abbrev dktJ5_getEnumeration_0 : List UInt8 := dkwJ5_getEnumeration_0 ++ []
theorem dksJ5_getEnumeration_0 : cJ5_getEnumeration.data.toList.drop 0 = dktJ5_getEnumeration_0 := by decide +kernel
theorem dJ5_getEnumeration_0 : decode cJ5_getEnumeration 0 = .ok (.aload_n 0, 1) := dk_42 (dk_at dksJ5_getEnumeration_0 0 rfl rfl)
theorem dJ5_getEnumeration_1 : decode cJ5_getEnumeration 1 = .ok (.getfield 85, 3) := dk_180 0 85 (dk_at dksJ5_getEnumeration_0 1 rfl rfl)
theorem dJ5_getEnumeration_4 : decode cJ5_getEnumeration 4 = .ok (.ifCond .ne 7, 3) := dk_154 0 7 (dk_at dksJ5_getEnumeration_0 4 rfl rfl)
theorem dJ5_getEnumeration_7 : decode cJ5_getEnumeration 7 = .ok (.invokestatic 201, 3) := dk_184 0 201 (dk_at dksJ5_getEnumeration_0 7 rfl rfl)
theorem dJ5_getEnumeration_10 : decode cJ5_getEnumeration 10 = .ok (.areturn, 1) := dk_176 (dk_at dksJ5_getEnumeration_0 10 rfl rfl)
theorem dJ5_getEnumeration_11 : decode cJ5_getEnumeration 11 = .ok (.new 207, 3) := dk_187 0 207 (dk_at dksJ5_getEnumeration_0 11 rfl rfl)
theorem dJ5_getEnumeration_14 : decode cJ5_getEnumeration 14 = .ok (.dup, 1) := dk_89 (dk_at dksJ5_getEnumeration_0 14 rfl rfl)
theorem dJ5_getEnumeration_15 : decode cJ5_getEnumeration 15 = .ok (.aload_n 0, 1) := dk_42 (dk_at dksJ5_getEnumeration_0 15 rfl rfl)
theorem dJ5_getEnumeration_16 : decode cJ5_getEnumeration 16 = .ok (.iload_n 1, 1) := dk_27 (dk_at dksJ5_getEnumeration_0 16 rfl rfl)
theorem dJ5_getEnumeration_17 : decode cJ5_getEnumeration 17 = .ok (.iconst 0, 1) := dk_3 (dk_at dksJ5_getEnumeration_0 17 rfl rfl)
theorem dJ5_getEnumeration_18 : decode cJ5_getEnumeration 18 = .ok (.invokespecial 209, 3) := dk_183 0 209 (dk_at dksJ5_getEnumeration_0 18 rfl rfl)
theorem dJ5_getEnumeration_21 : decode cJ5_getEnumeration 21 = .ok (.areturn, 1) := dk_176 (dk_at dksJ5_getEnumeration_0 21 rfl rfl)
theorem q12 : (Jvm.Cond.initialized "java/util/Hashtable") ∈ lw_all := lw_g (lw_at lw_m1 7 rfl) rfl
theorem q72 : (Jvm.Cond.instantiable "java/util/Hashtable" (8 : Nat)) ∈ lw_all := lw_g (lw_at lw_m1 67 rfl) rfl
theorem q74 : (Jvm.Cond.instanceMethod ({ cls := "java/util/Hashtable", name := "<init>", desc := "()V" } : Jvm.MethodName)) ∈ lw_all := lw_g (lw_at lw_m1 69 rfl) rfl
theorem q75 : (Jvm.Cond.code ({ cls := "java/util/Hashtable", name := "<init>", desc := "()V" } : Jvm.MethodName) prog_23_method_3_code (1 : Nat) (Option.none : Option Jvm.ClassFile.FieldType)) ∈ lw_all := lw_g (lw_at lw_m1 70 rfl) rfl
theorem q76 : (Jvm.Cond.constantFloat "java/util/Hashtable" (67 : Nat) (1061158912 : UInt32)) ∈ lw_all := lw_g (lw_at lw_m1 71 rfl) rfl
theorem q77 : (Jvm.Cond.methodLink "java/util/Hashtable" (68 : Nat) ({ cls := "java/util/Hashtable", name := "<init>", desc := "(IF)V" } : Jvm.MethodName)) ∈ lw_all := lw_g (lw_at lw_m1 72 rfl) rfl
theorem q78 : (Jvm.Cond.instanceMethod ({ cls := "java/util/Hashtable", name := "<init>", desc := "(IF)V" } : Jvm.MethodName)) ∈ lw_all := lw_g (lw_at lw_m1 73 rfl) rfl
theorem q79 : (Jvm.Cond.code ({ cls := "java/util/Hashtable", name := "<init>", desc := "(IF)V" } : Jvm.MethodName) prog_23_method_1_code (3 : Nat) (Option.none : Option Jvm.ClassFile.FieldType)) ∈ lw_all := lw_g (lw_at lw_m1 74 rfl) rfl
theorem q80 : (Jvm.Cond.methodLink "java/util/Hashtable" (3 : Nat) ({ cls := "java/util/Dictionary", name := "<init>", desc := "()V" } : Jvm.MethodName)) ∈ lw_all := lw_g (lw_at lw_m1 75 rfl) rfl
theorem q84 : (Jvm.Cond.methodLink "java/util/Hashtable" (36 : Nat) ({ cls := "java/lang/Float", name := "isNaN", desc := "(F)Z" } : Jvm.MethodName)) ∈ lw_all := lw_g (lw_at lw_m1 79 rfl) rfl
theorem q87 : (Jvm.Cond.classLink "java/util/Hashtable" (51 : Nat) "java/util/Hashtable$Entry") ∈ lw_all := lw_g (lw_at lw_m1 82 rfl) rfl
theorem q89 : (Jvm.Cond.constantFloat "java/util/Hashtable" (57 : Nat) (1325400064 : UInt32)) ∈ lw_all := lw_g (lw_at lw_m1 84 rfl) rfl
theorem q90 : (Jvm.Cond.methodLink "java/util/Hashtable" (58 : Nat) ({ cls := "java/lang/Math", name := "min", desc := "(FF)F" } : Jvm.MethodName)) ∈ lw_all := lw_g (lw_at lw_m1 85 rfl) rfl
theorem q99 : (Jvm.Cond.fieldLink "java/util/Hashtable" (53 : Nat) "java/util/Hashtable" "table" "[Ljava/util/Hashtable$Entry;") ∈ lw_all := lw_g (lw_at lw_m1 94 rfl) rfl
theorem q100 : (Jvm.Cond.fieldLink "java/util/Hashtable" (85 : Nat) "java/util/Hashtable" "count" "I") ∈ lw_all := lw_g (lw_at lw_m1 95 rfl) rfl
theorem q101 : (Jvm.Cond.fieldLink "java/util/Hashtable" (64 : Nat) "java/util/Hashtable" "threshold" "I") ∈ lw_all := lw_g (lw_at lw_m1 96 rfl) rfl
theorem q102 : (Jvm.Cond.fieldLink "java/util/Hashtable" (47 : Nat) "java/util/Hashtable" "loadFactor" "F") ∈ lw_all := lw_g (lw_at lw_m1 97 rfl) rfl
theorem q103 : (Jvm.Cond.fieldLink "java/util/Hashtable" (9 : Nat) "java/util/Hashtable" "modCount" "I") ∈ lw_all := lw_g (lw_at lw_m1 98 rfl) rfl
theorem q105 : (Jvm.Cond.lays "java/util/Hashtable" "java/util/Hashtable" "table" "[Ljava/util/Hashtable$Entry;") ∈ lw_all := lw_g (lw_at lw_m1 100 rfl) rfl
theorem q106 : (Jvm.Cond.soleField "java/util/Hashtable" "table") ∈ lw_all := lw_g (lw_at lw_m1 101 rfl) rfl
theorem q107 : (Jvm.Cond.lays "java/util/Hashtable" "java/util/Hashtable" "count" "I") ∈ lw_all := lw_g (lw_at lw_m1 102 rfl) rfl
theorem q108 : (Jvm.Cond.soleField "java/util/Hashtable" "count") ∈ lw_all := lw_g (lw_at lw_m1 103 rfl) rfl
theorem q109 : (Jvm.Cond.lays "java/util/Hashtable" "java/util/Hashtable" "threshold" "I") ∈ lw_all := lw_g (lw_at lw_m1 104 rfl) rfl
theorem q110 : (Jvm.Cond.soleField "java/util/Hashtable" "threshold") ∈ lw_all := lw_g (lw_at lw_m1 105 rfl) rfl
theorem q111 : (Jvm.Cond.lays "java/util/Hashtable" "java/util/Hashtable" "loadFactor" "F") ∈ lw_all := lw_g (lw_at lw_m1 106 rfl) rfl
theorem q112 : (Jvm.Cond.soleField "java/util/Hashtable" "loadFactor") ∈ lw_all := lw_g (lw_at lw_m1 107 rfl) rfl
theorem q113 : (Jvm.Cond.lays "java/util/Hashtable" "java/util/Hashtable" "modCount" "I") ∈ lw_all := lw_g (lw_at lw_m1 108 rfl) rfl
theorem q114 : (Jvm.Cond.soleField "java/util/Hashtable" "modCount") ∈ lw_all := lw_g (lw_at lw_m1 109 rfl) rfl
theorem q115 : (Jvm.Cond.lays "java/util/Hashtable" "java/util/Hashtable" "keySet" "Ljava/util/Set;") ∈ lw_all := lw_g (lw_at lw_m1 110 rfl) rfl
theorem q116 : (Jvm.Cond.soleField "java/util/Hashtable" "keySet") ∈ lw_all := lw_g (lw_at lw_m1 111 rfl) rfl
theorem q117 : (Jvm.Cond.lays "java/util/Hashtable" "java/util/Hashtable" "entrySet" "Ljava/util/Set;") ∈ lw_all := lw_g (lw_at lw_m1 112 rfl) rfl
theorem q118 : (Jvm.Cond.soleField "java/util/Hashtable" "entrySet") ∈ lw_all := lw_g (lw_at lw_m1 113 rfl) rfl
theorem q119 : (Jvm.Cond.lays "java/util/Hashtable" "java/util/Hashtable" "values" "Ljava/util/Collection;") ∈ lw_all := lw_g (lw_at lw_m1 114 rfl) rfl
theorem q120 : (Jvm.Cond.soleField "java/util/Hashtable" "values") ∈ lw_all := lw_g (lw_at lw_m1 115 rfl) rfl
theorem q121 : (Jvm.Cond.superclass "java/util/Hashtable" "java/util/Dictionary") ∈ lw_all := lw_g (lw_at lw_m1 116 rfl) rfl
theorem q195 : (Jvm.Cond.selects "java/util/Hashtable" ({ cls := "java/lang/Object", name := "getClass", desc := "()Ljava/lang/Class;" } : Jvm.MethodName) ({ cls := "java/lang/Object", name := "getClass", desc := "()Ljava/lang/Class;" } : Jvm.MethodName)) ∈ lw_all := lw_g (lw_at lw_m1 190 rfl) rfl
theorem q345 : (Jvm.Cond.instanceMethod ({ cls := "java/util/Hashtable", name := "put", desc := "(Ljava/lang/Object;Ljava/lang/Object;)Ljava/lang/Object;" } : Jvm.MethodName)) ∈ lw_all := lw_g (lw_at lw_m2 100 rfl) rfl
theorem q346 : (Jvm.Cond.selects "java/util/Hashtable" ({ cls := "java/util/Hashtable", name := "put", desc := "(Ljava/lang/Object;Ljava/lang/Object;)Ljava/lang/Object;" } : Jvm.MethodName) ({ cls := "java/util/Hashtable", name := "put", desc := "(Ljava/lang/Object;Ljava/lang/Object;)Ljava/lang/Object;" } : Jvm.MethodName)) ∈ lw_all := lw_g (lw_at lw_m2 101 rfl) rfl
theorem q347 : (Jvm.Cond.codeSync ({ cls := "java/util/Hashtable", name := "put", desc := "(Ljava/lang/Object;Ljava/lang/Object;)Ljava/lang/Object;" } : Jvm.MethodName) prog_23_method_16_code (8 : Nat) (Option.some (Jvm.ClassFile.FieldType.object "java/lang/Object"))) ∈ lw_all := lw_g (lw_at lw_m2 102 rfl) rfl
theorem q349 : (Jvm.Cond.methodLink "java/util/Hashtable" (112 : Nat) ({ cls := "java/lang/Object", name := "hashCode", desc := "()I" } : Jvm.MethodName)) ∈ lw_all := lw_g (lw_at lw_m2 104 rfl) rfl
theorem q360 : (Jvm.Cond.constant "java/util/Hashtable" (115 : Nat) (2147483647 : Int32)) ∈ lw_all := lw_g (lw_at lw_m2 115 rfl) rfl
theorem q361 : (Jvm.Cond.methodLink "java/util/Hashtable" (99 : Nat) ({ cls := "java/lang/Object", name := "equals", desc := "(Ljava/lang/Object;)Z" } : Jvm.MethodName)) ∈ lw_all := lw_g (lw_at lw_m2 116 rfl) rfl
theorem q362 : (Jvm.Cond.methodLink "java/util/Hashtable" (129 : Nat) ({ cls := "java/util/Hashtable", name := "addEntry", desc := "(ILjava/lang/Object;Ljava/lang/Object;I)V" } : Jvm.MethodName)) ∈ lw_all := lw_g (lw_at lw_m2 117 rfl) rfl
theorem q363 : (Jvm.Cond.privateMethod ({ cls := "java/util/Hashtable", name := "addEntry", desc := "(ILjava/lang/Object;Ljava/lang/Object;I)V" } : Jvm.MethodName)) ∈ lw_tbl := lw_at lw_m2 118 rfl
theorem q364 : (Jvm.Cond.instanceMethod ({ cls := "java/util/Hashtable", name := "addEntry", desc := "(ILjava/lang/Object;Ljava/lang/Object;I)V" } : Jvm.MethodName)) ∈ lw_all := lw_g (lw_at lw_m2 119 rfl) rfl
theorem q365 : (Jvm.Cond.code ({ cls := "java/util/Hashtable", name := "addEntry", desc := "(ILjava/lang/Object;Ljava/lang/Object;I)V" } : Jvm.MethodName) prog_23_method_15_code (7 : Nat) (Option.none : Option Jvm.ClassFile.FieldType)) ∈ lw_all := lw_g (lw_at lw_m2 120 rfl) rfl
theorem q366 : (Jvm.Cond.methodLink "java/util/Hashtable" (123 : Nat) ({ cls := "java/util/Hashtable", name := "rehash", desc := "()V" } : Jvm.MethodName)) ∈ lw_all := lw_g (lw_at lw_m2 121 rfl) rfl
theorem q367 : (Jvm.Cond.instanceMethod ({ cls := "java/util/Hashtable", name := "rehash", desc := "()V" } : Jvm.MethodName)) ∈ lw_all := lw_g (lw_at lw_m2 122 rfl) rfl
theorem q368 : (Jvm.Cond.selects "java/util/Hashtable" ({ cls := "java/util/Hashtable", name := "rehash", desc := "()V" } : Jvm.MethodName) ({ cls := "java/util/Hashtable", name := "rehash", desc := "()V" } : Jvm.MethodName)) ∈ lw_all := lw_g (lw_at lw_m2 123 rfl) rfl
theorem q369 : (Jvm.Cond.code ({ cls := "java/util/Hashtable", name := "rehash", desc := "()V" } : Jvm.MethodName) prog_23_method_14_code (9 : Nat) (Option.none : Option Jvm.ClassFile.FieldType)) ∈ lw_all := lw_g (lw_at lw_m2 124 rfl) rfl
theorem q370 : (Jvm.Cond.constant "java/util/Hashtable" (122 : Nat) (2147483639 : Int32)) ∈ lw_all := lw_g (lw_at lw_m2 125 rfl) rfl
theorem q372 : (Jvm.Cond.methodLink "java/util/Hashtable" (126 : Nat) ({ cls := "java/util/Hashtable$Entry", name := "<init>", desc := "(ILjava/lang/Object;Ljava/lang/Object;Ljava/util/Hashtable$Entry;)V" } : Jvm.MethodName)) ∈ lw_all := lw_g (lw_at lw_m2 127 rfl) rfl
theorem q377 : (Jvm.Cond.fieldLink "java/util/Hashtable" (116 : Nat) "java/util/Hashtable$Entry" "hash" "I") ∈ lw_all := lw_g (lw_at lw_m2 132 rfl) rfl
theorem q380 : (Jvm.Cond.fieldLink "java/util/Hashtable" (119 : Nat) "java/util/Hashtable$Entry" "key" "Ljava/lang/Object;") ∈ lw_all := lw_g (lw_at lw_m2 135 rfl) rfl
theorem q383 : (Jvm.Cond.fieldLink "java/util/Hashtable" (95 : Nat) "java/util/Hashtable$Entry" "value" "Ljava/lang/Object;") ∈ lw_all := lw_g (lw_at lw_m2 138 rfl) rfl
theorem q386 : (Jvm.Cond.fieldLink "java/util/Hashtable" (105 : Nat) "java/util/Hashtable$Entry" "next" "Ljava/util/Hashtable$Entry;") ∈ lw_all := lw_g (lw_at lw_m2 141 rfl) rfl
theorem q401 : (Jvm.Cond.instanceMethod ({ cls := "java/util/Hashtable", name := "get", desc := "(Ljava/lang/Object;)Ljava/lang/Object;" } : Jvm.MethodName)) ∈ lw_all := lw_g (lw_at lw_m2 156 rfl) rfl
theorem q402 : (Jvm.Cond.selects "java/util/Hashtable" ({ cls := "java/util/Hashtable", name := "get", desc := "(Ljava/lang/Object;)Ljava/lang/Object;" } : Jvm.MethodName) ({ cls := "java/util/Hashtable", name := "get", desc := "(Ljava/lang/Object;)Ljava/lang/Object;" } : Jvm.MethodName)) ∈ lw_all := lw_g (lw_at lw_m2 157 rfl) rfl
theorem q403 : (Jvm.Cond.codeSync ({ cls := "java/util/Hashtable", name := "get", desc := "(Ljava/lang/Object;)Ljava/lang/Object;" } : Jvm.MethodName) prog_23_method_13_code (6 : Nat) (Option.some (Jvm.ClassFile.FieldType.object "java/lang/Object"))) ∈ lw_all := lw_g (lw_at lw_m2 158 rfl) rfl
theorem q409 : (Jvm.Cond.instanceMethod ({ cls := "java/util/Hashtable", name := "remove", desc := "(Ljava/lang/Object;)Ljava/lang/Object;" } : Jvm.MethodName)) ∈ lw_all := lw_g (lw_at lw_m2 164 rfl) rfl
theorem q410 : (Jvm.Cond.selects "java/util/Hashtable" ({ cls := "java/util/Hashtable", name := "remove", desc := "(Ljava/lang/Object;)Ljava/lang/Object;" } : Jvm.MethodName) ({ cls := "java/util/Hashtable", name := "remove", desc := "(Ljava/lang/Object;)Ljava/lang/Object;" } : Jvm.MethodName)) ∈ lw_all := lw_g (lw_at lw_m2 165 rfl) rfl
theorem q411 : (Jvm.Cond.codeSync ({ cls := "java/util/Hashtable", name := "remove", desc := "(Ljava/lang/Object;)Ljava/lang/Object;" } : Jvm.MethodName) prog_23_method_17_code (8 : Nat) (Option.some (Jvm.ClassFile.FieldType.object "java/lang/Object"))) ∈ lw_all := lw_g (lw_at lw_m2 166 rfl) rfl
theorem q417 : (Jvm.Cond.instanceMethod ({ cls := "java/util/Hashtable", name := "contains", desc := "(Ljava/lang/Object;)Z" } : Jvm.MethodName)) ∈ lw_all := lw_g (lw_at lw_m2 172 rfl) rfl
theorem q418 : (Jvm.Cond.selects "java/util/Hashtable" ({ cls := "java/util/Hashtable", name := "contains", desc := "(Ljava/lang/Object;)Z" } : Jvm.MethodName) ({ cls := "java/util/Hashtable", name := "contains", desc := "(Ljava/lang/Object;)Z" } : Jvm.MethodName)) ∈ lw_all := lw_g (lw_at lw_m2 173 rfl) rfl
theorem q419 : (Jvm.Cond.codeSync ({ cls := "java/util/Hashtable", name := "contains", desc := "(Ljava/lang/Object;)Z" } : Jvm.MethodName) prog_23_method_10_code (5 : Nat) (Option.some Jvm.ClassFile.FieldType.boolean)) ∈ lw_all := lw_g (lw_at lw_m2 174 rfl) rfl
theorem q425 : (Jvm.Cond.instanceMethod ({ cls := "java/util/Hashtable", name := "containsKey", desc := "(Ljava/lang/Object;)Z" } : Jvm.MethodName)) ∈ lw_all := lw_g (lw_at lw_m2 180 rfl) rfl
theorem q426 : (Jvm.Cond.selects "java/util/Hashtable" ({ cls := "java/util/Hashtable", name := "containsKey", desc := "(Ljava/lang/Object;)Z" } : Jvm.MethodName) ({ cls := "java/util/Hashtable", name := "containsKey", desc := "(Ljava/lang/Object;)Z" } : Jvm.MethodName)) ∈ lw_all := lw_g (lw_at lw_m2 181 rfl) rfl
theorem q427 : (Jvm.Cond.codeSync ({ cls := "java/util/Hashtable", name := "containsKey", desc := "(Ljava/lang/Object;)Z" } : Jvm.MethodName) prog_23_method_12_code (6 : Nat) (Option.some Jvm.ClassFile.FieldType.boolean)) ∈ lw_all := lw_g (lw_at lw_m2 182 rfl) rfl
theorem q433 : (Jvm.Cond.instanceMethod ({ cls := "java/util/Hashtable", name := "size", desc := "()I" } : Jvm.MethodName)) ∈ lw_all := lw_g (lw_at lw_m2 188 rfl) rfl
theorem q434 : (Jvm.Cond.selects "java/util/Hashtable" ({ cls := "java/util/Hashtable", name := "size", desc := "()I" } : Jvm.MethodName) ({ cls := "java/util/Hashtable", name := "size", desc := "()I" } : Jvm.MethodName)) ∈ lw_all := lw_g (lw_at lw_m2 189 rfl) rfl
theorem q435 : (Jvm.Cond.codeSync ({ cls := "java/util/Hashtable", name := "size", desc := "()I" } : Jvm.MethodName) prog_23_method_6_code (1 : Nat) (Option.some Jvm.ClassFile.FieldType.int)) ∈ lw_all := lw_g (lw_at lw_m2 190 rfl) rfl
theorem q441 : (Jvm.Cond.instanceMethod ({ cls := "java/util/Hashtable", name := "isEmpty", desc := "()Z" } : Jvm.MethodName)) ∈ lw_all := lw_g (lw_at lw_m2 196 rfl) rfl
theorem q442 : (Jvm.Cond.selects "java/util/Hashtable" ({ cls := "java/util/Hashtable", name := "isEmpty", desc := "()Z" } : Jvm.MethodName) ({ cls := "java/util/Hashtable", name := "isEmpty", desc := "()Z" } : Jvm.MethodName)) ∈ lw_all := lw_g (lw_at lw_m2 197 rfl) rfl
theorem q443 : (Jvm.Cond.codeSync ({ cls := "java/util/Hashtable", name := "isEmpty", desc := "()Z" } : Jvm.MethodName) prog_23_method_7_code (1 : Nat) (Option.some Jvm.ClassFile.FieldType.boolean)) ∈ lw_all := lw_g (lw_at lw_m2 198 rfl) rfl
theorem q445 : (Jvm.Cond.instanceMethod ({ cls := "java/util/Hashtable", name := "keys", desc := "()Ljava/util/Enumeration;" } : Jvm.MethodName)) ∈ lw_all := lw_g (lw_at lw_m2 200 rfl) rfl
theorem q446 : (Jvm.Cond.selects "java/util/Hashtable" ({ cls := "java/util/Hashtable", name := "keys", desc := "()Ljava/util/Enumeration;" } : Jvm.MethodName) ({ cls := "java/util/Hashtable", name := "keys", desc := "()Ljava/util/Enumeration;" } : Jvm.MethodName)) ∈ lw_all := lw_g (lw_at lw_m2 201 rfl) rfl
theorem q447 : (Jvm.Cond.codeSync ({ cls := "java/util/Hashtable", name := "keys", desc := "()Ljava/util/Enumeration;" } : Jvm.MethodName) prog_23_method_8_code (1 : Nat) (Option.some (Jvm.ClassFile.FieldType.object "java/util/Enumeration"))) ∈ lw_all := lw_g (lw_at lw_m2 202 rfl) rfl
theorem q448 : (Jvm.Cond.methodLink "java/util/Hashtable" (88 : Nat) ({ cls := "java/util/Hashtable", name := "getEnumeration", desc := "(I)Ljava/util/Enumeration;" } : Jvm.MethodName)) ∈ lw_all := lw_g (lw_at lw_m2 203 rfl) rfl
theorem q449 : (Jvm.Cond.privateMethod ({ cls := "java/util/Hashtable", name := "getEnumeration", desc := "(I)Ljava/util/Enumeration;" } : Jvm.MethodName)) ∈ lw_tbl := lw_at lw_m2 204 rfl
theorem q450 : (Jvm.Cond.instanceMethod ({ cls := "java/util/Hashtable", name := "getEnumeration", desc := "(I)Ljava/util/Enumeration;" } : Jvm.MethodName)) ∈ lw_all := lw_g (lw_at lw_m2 205 rfl) rfl
theorem q451 : (Jvm.Cond.code ({ cls := "java/util/Hashtable", name := "getEnumeration", desc := "(I)Ljava/util/Enumeration;" } : Jvm.MethodName) prog_23_method_23_code (2 : Nat) (Option.some (Jvm.ClassFile.FieldType.object "java/util/Enumeration"))) ∈ lw_all := lw_g (lw_at lw_m2 206 rfl) rfl
theorem q452 : (Jvm.Cond.methodLink "java/util/Hashtable" (201 : Nat) ({ cls := "java/util/Collections", name := "emptyEnumeration", desc := "()Ljava/util/Enumeration;" } : Jvm.MethodName)) ∈ lw_all := lw_g (lw_at lw_m2 207 rfl) rfl
theorem q457 : (Jvm.Cond.classLink "java/util/Hashtable" (207 : Nat) "java/util/Hashtable$Enumerator") ∈ lw_all := lw_g (lw_at lw_m2 212 rfl) rfl
theorem q459 : (Jvm.Cond.methodLink "java/util/Hashtable" (209 : Nat) ({ cls := "java/util/Hashtable$Enumerator", name := "<init>", desc := "(Ljava/util/Hashtable;IZ)V" } : Jvm.MethodName)) ∈ lw_all := lw_g (lw_at lw_m2 214 rfl) rfl
theorem q529 : (Jvm.Cond.castable "java/util/Hashtable" "java/lang/Object") ∈ lw_tbl := lw_at lw_m3 44 rfl
theorem in_J5 : ∀ w ∈ wsJ50, w ∈ lw_all := lw_in wsJ50 [105, 107, 109, 111, 113, 115, 117, 119] (by decide +kernel) (by decide +kernel)
/-! java/util/Hashtable$Entry -/
set_option maxRecDepth 100000
def RJ12 : String := "java/util/Hashtable$Entry"
def TJ12 : u_T := fun k => match k with
  | 0 => ("java/util/Hashtable$Entry", "hash", "I", true)
  | 1 => ("java/util/Hashtable$Entry", "key", "Ljava/lang/Object;", true)
  | 2 => ("java/util/Hashtable$Entry", "value", "Ljava/lang/Object;", false)
  | _ => ("java/util/Hashtable$Entry", "next", "Ljava/util/Hashtable$Entry;", false)
def tyJ12 : Nat → FieldType := fun k => match k with
  | 0 => .int
  | 1 => .object "java/lang/Object"
  | 2 => .object "java/lang/Object"
  | _ => .object "java/util/Hashtable$Entry"
abbrev wsJ120 : List Cond := u_ws RJ12 TJ12 4
theorem nmJ12 : ∀ a, a < 4 → ∀ b, b < 4 → a ≠ b → (TJ12 a).2.1 ≠ (TJ12 b).2.1 := by decide +kernel
theorem tyJ12_ok : ∀ k, k < 4 → parseFieldDescriptor (TJ12 k).2.2.1 = some (tyJ12 k) := by decide +kernel
abbrev cJ12_init : ByteArray := prog_24_method_1_code
def yJ12_init : MethodName := ⟨RJ12, "<init>", "(ILjava/lang/Object;Ljava/lang/Object;Ljava/util/Hashtable$Entry;)V"⟩
def dkwJ12_init_1 : List UInt8 := [181, 0, 20, 177]
abbrev dktJ12_init_1 : List UInt8 := dkwJ12_init_1 ++ []
def dkwJ12_init_0 : List UInt8 := [42, 183, 0, 1, 42, 27, 181, 0, 7, 42, 44, 181, 0, 13, 42, 45, 181, 0, 17, 42, 25, 4]
abbrev dktJ12_init_0 : List UInt8 := dkwJ12_init_0 ++ dktJ12_init_1
theorem dksJ12_init_0 : cJ12_init.data.toList.drop 0 = dktJ12_init_0 := by decide +kernel
theorem dksJ12_init_1 : cJ12_init.data.toList.drop 22 = dktJ12_init_1 := dk_seg dksJ12_init_0 22 rfl rfl
theorem dJ12_init_0 : decode cJ12_init 0 = .ok (.aload_n 0, 1) := dk_42 (dk_at dksJ12_init_0 0 rfl rfl)
theorem dJ12_init_1 : decode cJ12_init 1 = .ok (.invokespecial 1, 3) := dk_183 0 1 (dk_at dksJ12_init_0 1 rfl rfl)
theorem dJ12_init_4 : decode cJ12_init 4 = .ok (.aload_n 0, 1) := dk_42 (dk_at dksJ12_init_0 4 rfl rfl)
theorem dJ12_init_5 : decode cJ12_init 5 = .ok (.iload_n 1, 1) := dk_27 (dk_at dksJ12_init_0 5 rfl rfl)
theorem dJ12_init_6 : decode cJ12_init 6 = .ok (.putfield 7, 3) := dk_181 0 7 (dk_at dksJ12_init_0 6 rfl rfl)
theorem dJ12_init_9 : decode cJ12_init 9 = .ok (.aload_n 0, 1) := dk_42 (dk_at dksJ12_init_0 9 rfl rfl)
theorem dJ12_init_10 : decode cJ12_init 10 = .ok (.aload_n 2, 1) := dk_44 (dk_at dksJ12_init_0 10 rfl rfl)
theorem dJ12_init_11 : decode cJ12_init 11 = .ok (.putfield 13, 3) := dk_181 0 13 (dk_at dksJ12_init_0 11 rfl rfl)
theorem dJ12_init_14 : decode cJ12_init 14 = .ok (.aload_n 0, 1) := dk_42 (dk_at dksJ12_init_0 14 rfl rfl)
theorem dJ12_init_15 : decode cJ12_init 15 = .ok (.aload_n 3, 1) := dk_45 (dk_at dksJ12_init_0 15 rfl rfl)
theorem dJ12_init_16 : decode cJ12_init 16 = .ok (.putfield 17, 3) := dk_181 0 17 (dk_at dksJ12_init_0 16 rfl rfl)
theorem dJ12_init_19 : decode cJ12_init 19 = .ok (.aload_n 0, 1) := dk_42 (dk_at dksJ12_init_0 19 rfl rfl)
theorem dJ12_init_20 : decode cJ12_init 20 = .ok (.aload 4, 2) := dk_25 4 (dk_at dksJ12_init_0 20 rfl rfl)
theorem dJ12_init_22 : decode cJ12_init 22 = .ok (.putfield 20, 3) := dk_181 0 20 (dk_at dksJ12_init_1 0 rfl rfl)
theorem dJ12_init_25 : decode cJ12_init 25 = .ok (.return_, 1) := dk_177 (dk_at dksJ12_init_1 3 rfl rfl)
theorem q21 : (Jvm.Cond.initialized "java/util/Hashtable$Entry") ∈ lw_all := lw_g (lw_at lw_m1 16 rfl) rfl
theorem q196 : (Jvm.Cond.selects "java/util/Hashtable$Entry" ({ cls := "java/lang/Object", name := "getClass", desc := "()Ljava/lang/Class;" } : Jvm.MethodName) ({ cls := "java/lang/Object", name := "getClass", desc := "()Ljava/lang/Class;" } : Jvm.MethodName)) ∈ lw_all := lw_g (lw_at lw_m1 191 rfl) rfl
theorem q371 : (Jvm.Cond.instantiable "java/util/Hashtable$Entry" (4 : Nat)) ∈ lw_all := lw_g (lw_at lw_m2 126 rfl) rfl
theorem q373 : (Jvm.Cond.instanceMethod ({ cls := "java/util/Hashtable$Entry", name := "<init>", desc := "(ILjava/lang/Object;Ljava/lang/Object;Ljava/util/Hashtable$Entry;)V" } : Jvm.MethodName)) ∈ lw_all := lw_g (lw_at lw_m2 128 rfl) rfl
theorem q374 : (Jvm.Cond.code ({ cls := "java/util/Hashtable$Entry", name := "<init>", desc := "(ILjava/lang/Object;Ljava/lang/Object;Ljava/util/Hashtable$Entry;)V" } : Jvm.MethodName) prog_24_method_1_code (5 : Nat) (Option.none : Option Jvm.ClassFile.FieldType)) ∈ lw_all := lw_g (lw_at lw_m2 129 rfl) rfl
theorem q375 : (Jvm.Cond.methodLink "java/util/Hashtable$Entry" (1 : Nat) ({ cls := "java/lang/Object", name := "<init>", desc := "()V" } : Jvm.MethodName)) ∈ lw_all := lw_g (lw_at lw_m2 130 rfl) rfl
theorem q376 : (Jvm.Cond.fieldLink "java/util/Hashtable$Entry" (7 : Nat) "java/util/Hashtable$Entry" "hash" "I") ∈ lw_all := lw_g (lw_at lw_m2 131 rfl) rfl
theorem q378 : (Jvm.Cond.fieldLink "java/util/Hashtable$Entry" (13 : Nat) "java/util/Hashtable$Entry" "key" "Ljava/lang/Object;") ∈ lw_all := lw_g (lw_at lw_m2 133 rfl) rfl
theorem q381 : (Jvm.Cond.fieldLink "java/util/Hashtable$Entry" (17 : Nat) "java/util/Hashtable$Entry" "value" "Ljava/lang/Object;") ∈ lw_all := lw_g (lw_at lw_m2 136 rfl) rfl
theorem q384 : (Jvm.Cond.fieldLink "java/util/Hashtable$Entry" (20 : Nat) "java/util/Hashtable$Entry" "next" "Ljava/util/Hashtable$Entry;") ∈ lw_all := lw_g (lw_at lw_m2 139 rfl) rfl
theorem q387 : (Jvm.Cond.laysFinal "java/util/Hashtable$Entry" "java/util/Hashtable$Entry" "hash" "I") ∈ lw_all := lw_g (lw_at lw_m2 142 rfl) rfl
theorem q388 : (Jvm.Cond.soleField "java/util/Hashtable$Entry" "hash") ∈ lw_all := lw_g (lw_at lw_m2 143 rfl) rfl
theorem q389 : (Jvm.Cond.laysFinal "java/util/Hashtable$Entry" "java/util/Hashtable$Entry" "key" "Ljava/lang/Object;") ∈ lw_all := lw_g (lw_at lw_m2 144 rfl) rfl
theorem q390 : (Jvm.Cond.soleField "java/util/Hashtable$Entry" "key") ∈ lw_all := lw_g (lw_at lw_m2 145 rfl) rfl
theorem q391 : (Jvm.Cond.lays "java/util/Hashtable$Entry" "java/util/Hashtable$Entry" "value" "Ljava/lang/Object;") ∈ lw_all := lw_g (lw_at lw_m2 146 rfl) rfl
theorem q392 : (Jvm.Cond.soleField "java/util/Hashtable$Entry" "value") ∈ lw_all := lw_g (lw_at lw_m2 147 rfl) rfl
theorem q393 : (Jvm.Cond.lays "java/util/Hashtable$Entry" "java/util/Hashtable$Entry" "next" "Ljava/util/Hashtable$Entry;") ∈ lw_all := lw_g (lw_at lw_m2 148 rfl) rfl
theorem q394 : (Jvm.Cond.soleField "java/util/Hashtable$Entry" "next") ∈ lw_all := lw_g (lw_at lw_m2 149 rfl) rfl
theorem q395 : (Jvm.Cond.superclass "java/util/Hashtable$Entry" "java/lang/Object") ∈ lw_all := lw_g (lw_at lw_m2 150 rfl) rfl
theorem q526 : (Jvm.Cond.castable "java/util/Hashtable$Entry" "java/lang/Object") ∈ lw_tbl := lw_at lw_m3 41 rfl
theorem in_J12 : ∀ w ∈ wsJ120, w ∈ lw_all := lw_in wsJ120 [387, 389, 391, 393] (by decide +kernel) (by decide +kernel)
/-! java/util/Collections -/
set_option maxRecDepth 100000
def RJ13 : String := "java/util/Collections"
abbrev cJ13_emptyEnumeration : ByteArray := prog_19_method_63_code
def yJ13_emptyEnumeration : MethodName := ⟨RJ13, "emptyEnumeration", "()Ljava/util/Enumeration;"⟩
theorem dJ13_emptyEnumeration_0 : decode cJ13_emptyEnumeration 0 = .ok (.getstatic 354, 3) := by decide +kernel
theorem dJ13_emptyEnumeration_3 : decode cJ13_emptyEnumeration 3 = .ok (.areturn, 1) := by decide +kernel
theorem q22 : (Jvm.Cond.initialized "java/util/Collections") ∈ lw_all := lw_g (lw_at lw_m1 17 rfl) rfl
theorem q453 : (Jvm.Cond.static ({ cls := "java/util/Collections", name := "emptyEnumeration", desc := "()Ljava/util/Enumeration;" } : Jvm.MethodName)) ∈ lw_all := lw_g (lw_at lw_m2 208 rfl) rfl
theorem q454 : (Jvm.Cond.code ({ cls := "java/util/Collections", name := "emptyEnumeration", desc := "()Ljava/util/Enumeration;" } : Jvm.MethodName) prog_19_method_63_code (0 : Nat) (Option.some (Jvm.ClassFile.FieldType.object "java/util/Enumeration"))) ∈ lw_all := lw_g (lw_at lw_m2 209 rfl) rfl
theorem q455 : (Jvm.Cond.fieldLink "java/util/Collections" (354 : Nat) "java/util/Collections$EmptyEnumeration" "EMPTY_ENUMERATION" "Ljava/util/Collections$EmptyEnumeration;") ∈ lw_all := lw_g (lw_at lw_m2 210 rfl) rfl
/-! java/util/Collections$EmptyEnumeration -/
set_option maxRecDepth 100000
def RJ14 : String := "java/util/Collections$EmptyEnumeration"
abbrev cJ14_hasMoreElements : ByteArray := prog_20_method_2_code
def yJ14_hasMoreElements : MethodName := ⟨RJ14, "hasMoreElements", "()Z"⟩
theorem dJ14_hasMoreElements_0 : decode cJ14_hasMoreElements 0 = .ok (.iconst 0, 1) := by decide +kernel
theorem dJ14_hasMoreElements_1 : decode cJ14_hasMoreElements 1 = .ok (.ireturn, 1) := by decide +kernel
abbrev cJ14_nextElement : ByteArray := prog_20_method_3_code
def yJ14_nextElement : MethodName := ⟨RJ14, "nextElement", "()Ljava/lang/Object;"⟩
def dkwJ14_nextElement_0 : List UInt8 := [187, 0, 7, 89, 183, 0, 9, 191]
abbrev dktJ14_nextElement_0 : List UInt8 := dkwJ14_nextElement_0 ++ []
theorem dksJ14_nextElement_0 : cJ14_nextElement.data.toList.drop 0 = dktJ14_nextElement_0 := by decide +kernel
theorem dJ14_nextElement_0 : decode cJ14_nextElement 0 = .ok (.new 7, 3) := dk_187 0 7 (dk_at dksJ14_nextElement_0 0 rfl rfl)
theorem dJ14_nextElement_3 : decode cJ14_nextElement 3 = .ok (.dup, 1) := dk_89 (dk_at dksJ14_nextElement_0 3 rfl rfl)
theorem dJ14_nextElement_4 : decode cJ14_nextElement 4 = .ok (.invokespecial 9, 3) := dk_183 0 9 (dk_at dksJ14_nextElement_0 4 rfl rfl)
theorem dJ14_nextElement_7 : decode cJ14_nextElement 7 = .ok (.athrow, 1) := dk_191 (dk_at dksJ14_nextElement_0 7 rfl rfl)
theorem q23 : (Jvm.Cond.initialized "java/util/Collections$EmptyEnumeration") ∈ lw_all := lw_g (lw_at lw_m1 18 rfl) rfl
theorem q194 : (Jvm.Cond.selects "java/util/Collections$EmptyEnumeration" ({ cls := "java/lang/Object", name := "getClass", desc := "()Ljava/lang/Class;" } : Jvm.MethodName) ({ cls := "java/lang/Object", name := "getClass", desc := "()Ljava/lang/Class;" } : Jvm.MethodName)) ∈ lw_all := lw_g (lw_at lw_m1 189 rfl) rfl
theorem q456 : (Jvm.Cond.laysStatic "java/util/Collections$EmptyEnumeration" "EMPTY_ENUMERATION" "Ljava/util/Collections$EmptyEnumeration;") ∈ lw_tbl := lw_at lw_m2 211 rfl
theorem q492 : (Jvm.Cond.castable "java/util/Collections$EmptyEnumeration" "java/util/Enumeration") ∈ lw_tbl := lw_at lw_m3 7 rfl
theorem q493 : (Jvm.Cond.selects "java/util/Collections$EmptyEnumeration" ({ cls := "java/util/Enumeration", name := "hasMoreElements", desc := "()Z" } : Jvm.MethodName) ({ cls := "java/util/Collections$EmptyEnumeration", name := "hasMoreElements", desc := "()Z" } : Jvm.MethodName)) ∈ lw_all := lw_g (lw_at lw_m3 8 rfl) rfl
theorem q494 : (Jvm.Cond.unhidden "java/util/Collections$EmptyEnumeration" "hasMoreElements" "()Z") ∈ lw_tbl := lw_at lw_m3 9 rfl
theorem q495 : (Jvm.Cond.instanceMethod ({ cls := "java/util/Collections$EmptyEnumeration", name := "hasMoreElements", desc := "()Z" } : Jvm.MethodName)) ∈ lw_all := lw_g (lw_at lw_m3 10 rfl) rfl
theorem q496 : (Jvm.Cond.publicMethod ({ cls := "java/util/Collections$EmptyEnumeration", name := "hasMoreElements", desc := "()Z" } : Jvm.MethodName)) ∈ lw_tbl := lw_at lw_m3 11 rfl
theorem q497 : (Jvm.Cond.code ({ cls := "java/util/Collections$EmptyEnumeration", name := "hasMoreElements", desc := "()Z" } : Jvm.MethodName) prog_20_method_2_code (1 : Nat) (Option.some Jvm.ClassFile.FieldType.boolean)) ∈ lw_all := lw_g (lw_at lw_m3 12 rfl) rfl
theorem q508 : (Jvm.Cond.selects "java/util/Collections$EmptyEnumeration" ({ cls := "java/util/Enumeration", name := "nextElement", desc := "()Ljava/lang/Object;" } : Jvm.MethodName) ({ cls := "java/util/Collections$EmptyEnumeration", name := "nextElement", desc := "()Ljava/lang/Object;" } : Jvm.MethodName)) ∈ lw_all := lw_g (lw_at lw_m3 23 rfl) rfl
theorem q509 : (Jvm.Cond.unhidden "java/util/Collections$EmptyEnumeration" "nextElement" "()Ljava/lang/Object;") ∈ lw_tbl := lw_at lw_m3 24 rfl
theorem q510 : (Jvm.Cond.instanceMethod ({ cls := "java/util/Collections$EmptyEnumeration", name := "nextElement", desc := "()Ljava/lang/Object;" } : Jvm.MethodName)) ∈ lw_all := lw_g (lw_at lw_m3 25 rfl) rfl
theorem q511 : (Jvm.Cond.publicMethod ({ cls := "java/util/Collections$EmptyEnumeration", name := "nextElement", desc := "()Ljava/lang/Object;" } : Jvm.MethodName)) ∈ lw_tbl := lw_at lw_m3 26 rfl
theorem q512 : (Jvm.Cond.code ({ cls := "java/util/Collections$EmptyEnumeration", name := "nextElement", desc := "()Ljava/lang/Object;" } : Jvm.MethodName) prog_20_method_3_code (1 : Nat) (Option.some (Jvm.ClassFile.FieldType.object "java/lang/Object"))) ∈ lw_all := lw_g (lw_at lw_m3 27 rfl) rfl
theorem q531 : (Jvm.Cond.castable "java/util/Collections$EmptyEnumeration" "java/lang/Object") ∈ lw_tbl := lw_at lw_m3 46 rfl
/-! java/util/Hashtable$Enumerator -/
set_option maxRecDepth 100000
def RJ15 : String := "java/util/Hashtable$Enumerator"
def TJ15 : u_T := fun k => match k with
  | 0 => ("java/util/Hashtable$Enumerator", "table", "[Ljava/util/Hashtable$Entry;", true)
  | 1 => ("java/util/Hashtable$Enumerator", "index", "I", false)
  | 2 => ("java/util/Hashtable$Enumerator", "entry", "Ljava/util/Hashtable$Entry;", false)
  | 3 => ("java/util/Hashtable$Enumerator", "lastReturned", "Ljava/util/Hashtable$Entry;", false)
  | 4 => ("java/util/Hashtable$Enumerator", "type", "I", true)
  | 5 => ("java/util/Hashtable$Enumerator", "iterator", "Z", true)
  | 6 => ("java/util/Hashtable$Enumerator", "expectedModCount", "I", false)
  | _ => ("java/util/Hashtable$Enumerator", "this$0", "Ljava/util/Hashtable;", true)
def tyJ15 : Nat → FieldType := fun k => match k with
  | 0 => .array (.object "java/util/Hashtable$Entry")
  | 1 => .int
  | 2 => .object "java/util/Hashtable$Entry"
  | 3 => .object "java/util/Hashtable$Entry"
  | 4 => .int
  | 5 => .boolean
  | 6 => .int
  | _ => .object "java/util/Hashtable"
abbrev wsJ150 : List Cond := u_ws RJ15 TJ15 8
theorem nmJ15 : ∀ a, a < 8 → ∀ b, b < 8 → a ≠ b → (TJ15 a).2.1 ≠ (TJ15 b).2.1 := by decide +kernel
theorem tyJ15_ok : ∀ k, k < 8 → parseFieldDescriptor (TJ15 k).2.2.1 = some (tyJ15 k) := by decide +kernel
abbrev cJ15_init : ByteArray := prog_25_method_1_code
def yJ15_init : MethodName := ⟨RJ15, "<init>", "(Ljava/util/Hashtable;IZ)V"⟩
def dkwJ15_init_2 : List UInt8 := [29, 181, 0, 33, 177]
abbrev dktJ15_init_2 : List UInt8 := dkwJ15_init_2 ++ []
def dkwJ15_init_1 : List UInt8 := [180, 0, 19, 190, 181, 0, 20, 42, 42, 180, 0, 3, 180, 0, 24, 181, 0, 27, 42, 28, 181, 0, 30, 42]
abbrev dktJ15_init_1 : List UInt8 := dkwJ15_init_1 ++ dktJ15_init_2
def dkwJ15_init_0 : List UInt8 := [42, 43, 181, 0, 3, 42, 183, 0, 9, 42, 42, 180, 0, 3, 180, 0, 15, 181, 0, 19, 42, 42]
abbrev dktJ15_init_0 : List UInt8 := dkwJ15_init_0 ++ dktJ15_init_1
theorem dksJ15_init_0 : cJ15_init.data.toList.drop 0 = dktJ15_init_0 := by decide +kernel
theorem dksJ15_init_1 : cJ15_init.data.toList.drop 22 = dktJ15_init_1 := dk_seg dksJ15_init_0 22 rfl rfl
theorem dksJ15_init_2 : cJ15_init.data.toList.drop 46 = dktJ15_init_2 := dk_seg dksJ15_init_1 24 rfl rfl
theorem dJ15_init_0 : decode cJ15_init 0 = .ok (.aload_n 0, 1) := dk_42 (dk_at dksJ15_init_0 0 rfl rfl)
theorem dJ15_init_1 : decode cJ15_init 1 = .ok (.aload_n 1, 1) := dk_43 (dk_at dksJ15_init_0 1 rfl rfl)
theorem dJ15_init_2 : decode cJ15_init 2 = .ok (.putfield 3, 3) := dk_181 0 3 (dk_at dksJ15_init_0 2 rfl rfl)
theorem dJ15_init_5 : decode cJ15_init 5 = .ok (.aload_n 0, 1) := dk_42 (dk_at dksJ15_init_0 5 rfl rfl)
theorem dJ15_init_6 : decode cJ15_init 6 = .ok (.invokespecial 9, 3) := dk_183 0 9 (dk_at dksJ15_init_0 6 rfl rfl)
theorem dJ15_init_9 : decode cJ15_init 9 = .ok (.aload_n 0, 1) := dk_42 (dk_at dksJ15_init_0 9 rfl rfl)
theorem dJ15_init_10 : decode cJ15_init 10 = .ok (.aload_n 0, 1) := dk_42 (dk_at dksJ15_init_0 10 rfl rfl)
theorem dJ15_init_11 : decode cJ15_init 11 = .ok (.getfield 3, 3) := dk_180 0 3 (dk_at dksJ15_init_0 11 rfl rfl)
theorem dJ15_init_14 : decode cJ15_init 14 = .ok (.getfield 15, 3) := dk_180 0 15 (dk_at dksJ15_init_0 14 rfl rfl)
theorem dJ15_init_17 : decode cJ15_init 17 = .ok (.putfield 19, 3) := dk_181 0 19 (dk_at dksJ15_init_0 17 rfl rfl)
theorem dJ15_init_20 : decode cJ15_init 20 = .ok (.aload_n 0, 1) := dk_42 (dk_at dksJ15_init_0 20 rfl rfl)
theorem dJ15_init_21 : decode cJ15_init 21 = .ok (.aload_n 0, 1) := dk_42 (dk_at dksJ15_init_0 21 rfl rfl)
theorem dJ15_init_22 : decode cJ15_init 22 = .ok (.getfield 19, 3) := dk_180 0 19 (dk_at dksJ15_init_1 0 rfl rfl)
theorem dJ15_init_25 : decode cJ15_init 25 = .ok (.arraylength, 1) := dk_190 (dk_at dksJ15_init_1 3 rfl rfl)
theorem dJ15_init_26 : decode cJ15_init 26 = .ok (.putfield 20, 3) := dk_181 0 20 (dk_at dksJ15_init_1 4 rfl rfl)
theorem dJ15_init_29 : decode cJ15_init 29 = .ok (.aload_n 0, 1) := dk_42 (dk_at dksJ15_init_1 7 rfl rfl)
theorem dJ15_init_30 : decode cJ15_init 30 = .ok (.aload_n 0, 1) := dk_42 (dk_at dksJ15_init_1 8 rfl rfl)
theorem dJ15_init_31 : decode cJ15_init 31 = .ok (.getfield 3, 3) := dk_180 0 3 (dk_at dksJ15_init_1 9 rfl rfl)
theorem dJ15_init_34 : decode cJ15_init 34 = .ok (.getfield 24, 3) := dk_180 0 24 (dk_at dksJ15_init_1 12 rfl rfl)
theorem dJ15_init_37 : decode cJ15_init 37 = .ok (.putfield 27, 3) := dk_181 0 27 (dk_at dksJ15_init_1 15 rfl rfl)
theorem dJ15_init_40 : decode cJ15_init 40 = .ok (.aload_n 0, 1) := dk_42 (dk_at dksJ15_init_1 18 rfl rfl)
theorem dJ15_init_41 : decode cJ15_init 41 = .ok (.iload_n 2, 1) := dk_28 (dk_at dksJ15_init_1 19 rfl rfl)
theorem dJ15_init_42 : decode cJ15_init 42 = .ok (.putfield 30, 3) := dk_181 0 30 (dk_at dksJ15_init_1 20 rfl rfl)
theorem dJ15_init_45 : decode cJ15_init 45 = .ok (.aload_n 0, 1) := dk_42 (dk_at dksJ15_init_1 23 rfl rfl)
theorem dJ15_init_46 : decode cJ15_init 46 = .ok (.iload_n 3, 1) := dk_29 (dk_at dksJ15_init_2 0 rfl rfl)
theorem dJ15_init_47 : decode cJ15_init 47 = .ok (.putfield 33, 3) := dk_181 0 33 (dk_at dksJ15_init_2 1 rfl rfl)
theorem dJ15_init_50 : decode cJ15_init 50 = .ok (.return_, 1) := dk_177 (dk_at dksJ15_init_2 4 rfl rfl)
abbrev cJ15_hasMoreElements : ByteArray := prog_25_method_2_code
def yJ15_hasMoreElements : MethodName := ⟨RJ15, "hasMoreElements", "()Z"⟩
def dkwJ15_hasMoreElements_2 : List UInt8 := [167, 0, 4, 3, 172]
abbrev dktJ15_hasMoreElements_2 : List UInt8 := dkwJ15_hasMoreElements_2 ++ []
def dkwJ15_hasMoreElements_1 : List UInt8 := [132, 2, 255, 28, 50, 76, 167, 255, 241, 42, 43, 181, 0, 37, 42, 28, 181, 0, 20, 43, 198, 0, 7, 4]
abbrev dktJ15_hasMoreElements_1 : List UInt8 := dkwJ15_hasMoreElements_1 ++ dktJ15_hasMoreElements_2
def dkwJ15_hasMoreElements_0 : List UInt8 := [42, 180, 0, 37, 76, 42, 180, 0, 20, 61, 42, 180, 0, 19, 78, 43, 199, 0, 17, 28, 158, 0, 13, 45]
abbrev dktJ15_hasMoreElements_0 : List UInt8 := dkwJ15_hasMoreElements_0 ++ dktJ15_hasMoreElements_1
theorem dksJ15_hasMoreElements_0 : cJ15_hasMoreElements.data.toList.drop 0 = dktJ15_hasMoreElements_0 := by decide +kernel
theorem dksJ15_hasMoreElements_1 : cJ15_hasMoreElements.data.toList.drop 24 = dktJ15_hasMoreElements_1 := dk_seg dksJ15_hasMoreElements_0 24 rfl rfl
theorem dksJ15_hasMoreElements_2 : cJ15_hasMoreElements.data.toList.drop 48 = dktJ15_hasMoreElements_2 := dk_seg dksJ15_hasMoreElements_1 24 rfl rfl
theorem dJ15_hasMoreElements_0 : decode cJ15_hasMoreElements 0 = .ok (.aload_n 0, 1) := dk_42 (dk_at dksJ15_hasMoreElements_0 0 rfl rfl)
theorem dJ15_hasMoreElements_1 : decode cJ15_hasMoreElements 1 = .ok (.getfield 37, 3) := dk_180 0 37 (dk_at dksJ15_hasMoreElements_0 1 rfl rfl)
theorem dJ15_hasMoreElements_4 : decode cJ15_hasMoreElements 4 = .ok (.astore_n 1, 1) := dk_76 (dk_at dksJ15_hasMoreElements_0 4 rfl rfl)
theorem dJ15_hasMoreElements_5 : decode cJ15_hasMoreElements 5 = .ok (.aload_n 0, 1) := dk_42 (dk_at dksJ15_hasMoreElements_0 5 rfl rfl)
theorem dJ15_hasMoreElements_6 : decode cJ15_hasMoreElements 6 = .ok (.getfield 20, 3) := dk_180 0 20 (dk_at dksJ15_hasMoreElements_0 6 rfl rfl)
theorem dJ15_hasMoreElements_9 : decode cJ15_hasMoreElements 9 = .ok (.istore_n 2, 1) := dk_61 (dk_at dksJ15_hasMoreElements_0 9 rfl rfl)
theorem dJ15_hasMoreElements_10 : decode cJ15_hasMoreElements 10 = .ok (.aload_n 0, 1) := dk_42 (dk_at dksJ15_hasMoreElements_0 10 rfl rfl)
theorem dJ15_hasMoreElements_11 : decode cJ15_hasMoreElements 11 = .ok (.getfield 19, 3) := dk_180 0 19 (dk_at dksJ15_hasMoreElements_0 11 rfl rfl)
theorem dJ15_hasMoreElements_14 : decode cJ15_hasMoreElements 14 = .ok (.astore_n 3, 1) := dk_78 (dk_at dksJ15_hasMoreElements_0 14 rfl rfl)
theorem dJ15_hasMoreElements_15 : decode cJ15_hasMoreElements 15 = .ok (.aload_n 1, 1) := dk_43 (dk_at dksJ15_hasMoreElements_0 15 rfl rfl)
theorem dJ15_hasMoreElements_16 : decode cJ15_hasMoreElements 16 = .ok (.ifnonnull 17, 3) := dk_199 0 17 (dk_at dksJ15_hasMoreElements_0 16 rfl rfl)
theorem dJ15_hasMoreElements_19 : decode cJ15_hasMoreElements 19 = .ok (.iload_n 2, 1) := dk_28 (dk_at dksJ15_hasMoreElements_0 19 rfl rfl)
theorem dJ15_hasMoreElements_20 : decode cJ15_hasMoreElements 20 = .ok (.ifCond .le 13, 3) := dk_158 0 13 (dk_at dksJ15_hasMoreElements_0 20 rfl rfl)
theorem dJ15_hasMoreElements_23 : decode cJ15_hasMoreElements 23 = .ok (.aload_n 3, 1) := dk_45 (dk_at dksJ15_hasMoreElements_0 23 rfl rfl)
theorem dJ15_hasMoreElements_24 : decode cJ15_hasMoreElements 24 = .ok (.iinc 2 (-1), 3) := dk_132 2 255 (dk_at dksJ15_hasMoreElements_1 0 rfl rfl)
theorem dJ15_hasMoreElements_27 : decode cJ15_hasMoreElements 27 = .ok (.iload_n 2, 1) := dk_28 (dk_at dksJ15_hasMoreElements_1 3 rfl rfl)
theorem dJ15_hasMoreElements_28 : decode cJ15_hasMoreElements 28 = .ok (.aaload, 1) := dk_50 (dk_at dksJ15_hasMoreElements_1 4 rfl rfl)
theorem dJ15_hasMoreElements_29 : decode cJ15_hasMoreElements 29 = .ok (.astore_n 1, 1) := dk_76 (dk_at dksJ15_hasMoreElements_1 5 rfl rfl)
theorem dJ15_hasMoreElements_30 : decode cJ15_hasMoreElements 30 = .ok (.goto (-15), 3) := dk_167 255 241 (dk_at dksJ15_hasMoreElements_1 6 rfl rfl)
theorem dJ15_hasMoreElements_33 : decode cJ15_hasMoreElements 33 = .ok (.aload_n 0, 1) := dk_42 (dk_at dksJ15_hasMoreElements_1 9 rfl rfl)
theorem dJ15_hasMoreElements_34 : decode cJ15_hasMoreElements 34 = .ok (.aload_n 1, 1) := dk_43 (dk_at dksJ15_hasMoreElements_1 10 rfl rfl)
theorem dJ15_hasMoreElements_35 : decode cJ15_hasMoreElements 35 = .ok (.putfield 37, 3) := dk_181 0 37 (dk_at dksJ15_hasMoreElements_1 11 rfl rfl)
theorem dJ15_hasMoreElements_38 : decode cJ15_hasMoreElements 38 = .ok (.aload_n 0, 1) := dk_42 (dk_at dksJ15_hasMoreElements_1 14 rfl rfl)
theorem dJ15_hasMoreElements_39 : decode cJ15_hasMoreElements 39 = .ok (.iload_n 2, 1) := dk_28 (dk_at dksJ15_hasMoreElements_1 15 rfl rfl)
theorem dJ15_hasMoreElements_40 : decode cJ15_hasMoreElements 40 = .ok (.putfield 20, 3) := dk_181 0 20 (dk_at dksJ15_hasMoreElements_1 16 rfl rfl)
theorem dJ15_hasMoreElements_43 : decode cJ15_hasMoreElements 43 = .ok (.aload_n 1, 1) := dk_43 (dk_at dksJ15_hasMoreElements_1 19 rfl rfl)
theorem dJ15_hasMoreElements_44 : decode cJ15_hasMoreElements 44 = .ok (.ifnull 7, 3) := dk_198 0 7 (dk_at dksJ15_hasMoreElements_1 20 rfl rfl)
theorem dJ15_hasMoreElements_47 : decode cJ15_hasMoreElements 47 = .ok (.iconst 1, 1) := dk_4 (dk_at dksJ15_hasMoreElements_1 23 rfl rfl)
theorem dJ15_hasMoreElements_48 : decode cJ15_hasMoreElements 48 = .ok (.goto 4, 3) := dk_167 0 4 (dk_at dksJ15_hasMoreElements_2 0 rfl rfl)
theorem dJ15_hasMoreElements_51 : decode cJ15_hasMoreElements 51 = .ok (.iconst 0, 1) := dk_3 (dk_at dksJ15_hasMoreElements_2 3 rfl rfl)
theorem dJ15_hasMoreElements_52 : decode cJ15_hasMoreElements 52 = .ok (.ireturn, 1) := dk_172 (dk_at dksJ15_hasMoreElements_2 4 rfl rfl)
abbrev cJ15_nextElement : ByteArray := prog_25_method_3_code
def yJ15_nextElement : MethodName := ⟨RJ15, "nextElement", "()Ljava/lang/Object;"⟩
def dkwJ15_nextElement_4 : List UInt8 := [167, 0, 5, 25, 4, 176, 187, 0, 56, 89, 18, 58, 183, 0, 60, 191]
abbrev dktJ15_nextElement_4 : List UInt8 := dkwJ15_nextElement_4 ++ []
def dkwJ15_nextElement_3 : List UInt8 := [154, 0, 11, 25, 4, 180, 0, 49, 167, 0, 21, 42, 180, 0, 30, 4, 160, 0, 11, 25, 4, 180, 0, 53]
abbrev dktJ15_nextElement_3 : List UInt8 := dkwJ15_nextElement_3 ++ dktJ15_nextElement_4
def dkwJ15_nextElement_2 : List UInt8 := [42, 180, 0, 37, 90, 181, 0, 41, 58, 4, 42, 25, 4, 180, 0, 44, 181, 0, 37, 42, 180, 0, 30]
abbrev dktJ15_nextElement_2 : List UInt8 := dkwJ15_nextElement_2 ++ dktJ15_nextElement_3
def dkwJ15_nextElement_1 : List UInt8 := [132, 2, 255, 28, 50, 76, 167, 255, 241, 42, 43, 181, 0, 37, 42, 28, 181, 0, 20, 43, 198, 0, 57, 42]
abbrev dktJ15_nextElement_1 : List UInt8 := dkwJ15_nextElement_1 ++ dktJ15_nextElement_2
def dkwJ15_nextElement_0 : List UInt8 := [42, 180, 0, 37, 76, 42, 180, 0, 20, 61, 42, 180, 0, 19, 78, 43, 199, 0, 17, 28, 158, 0, 13, 45]
abbrev dktJ15_nextElement_0 : List UInt8 := dkwJ15_nextElement_0 ++ dktJ15_nextElement_1
theorem dksJ15_nextElement_0 : cJ15_nextElement.data.toList.drop 0 = dktJ15_nextElement_0 := by decide +kernel
theorem dksJ15_nextElement_1 : cJ15_nextElement.data.toList.drop 24 = dktJ15_nextElement_1 := dk_seg dksJ15_nextElement_0 24 rfl rfl
theorem dksJ15_nextElement_2 : cJ15_nextElement.data.toList.drop 48 = dktJ15_nextElement_2 := dk_seg dksJ15_nextElement_1 24 rfl rfl
theorem dksJ15_nextElement_3 : cJ15_nextElement.data.toList.drop 71 = dktJ15_nextElement_3 := dk_seg dksJ15_nextElement_2 23 rfl rfl
theorem dksJ15_nextElement_4 : cJ15_nextElement.data.toList.drop 95 = dktJ15_nextElement_4 := dk_seg dksJ15_nextElement_3 24 rfl rfl
theorem dJ15_nextElement_0 : decode cJ15_nextElement 0 = .ok (.aload_n 0, 1) := dk_42 (dk_at dksJ15_nextElement_0 0 rfl rfl)
theorem dJ15_nextElement_1 : decode cJ15_nextElement 1 = .ok (.getfield 37, 3) := dk_180 0 37 (dk_at dksJ15_nextElement_0 1 rfl rfl)
theorem dJ15_nextElement_4 : decode cJ15_nextElement 4 = .ok (.astore_n 1, 1) := dk_76 (dk_at dksJ15_nextElement_0 4 rfl rfl)
theorem dJ15_nextElement_5 : decode cJ15_nextElement 5 = .ok (.aload_n 0, 1) := dk_42 (dk_at dksJ15_nextElement_0 5 rfl rfl)
theorem dJ15_nextElement_6 : decode cJ15_nextElement 6 = .ok (.getfield 20, 3) := dk_180 0 20 (dk_at dksJ15_nextElement_0 6 rfl rfl)
theorem dJ15_nextElement_9 : decode cJ15_nextElement 9 = .ok (.istore_n 2, 1) := dk_61 (dk_at dksJ15_nextElement_0 9 rfl rfl)
theorem dJ15_nextElement_10 : decode cJ15_nextElement 10 = .ok (.aload_n 0, 1) := dk_42 (dk_at dksJ15_nextElement_0 10 rfl rfl)
theorem dJ15_nextElement_11 : decode cJ15_nextElement 11 = .ok (.getfield 19, 3) := dk_180 0 19 (dk_at dksJ15_nextElement_0 11 rfl rfl)
theorem dJ15_nextElement_14 : decode cJ15_nextElement 14 = .ok (.astore_n 3, 1) := dk_78 (dk_at dksJ15_nextElement_0 14 rfl rfl)
theorem dJ15_nextElement_15 : decode cJ15_nextElement 15 = .ok (.aload_n 1, 1) := dk_43 (dk_at dksJ15_nextElement_0 15 rfl rfl)
theorem dJ15_nextElement_16 : decode cJ15_nextElement 16 = .ok (.ifnonnull 17, 3) := dk_199 0 17 (dk_at dksJ15_nextElement_0 16 rfl rfl)
theorem dJ15_nextElement_19 : decode cJ15_nextElement 19 = .ok (.iload_n 2, 1) := dk_28 (dk_at dksJ15_nextElement_0 19 rfl rfl)
theorem dJ15_nextElement_20 : decode cJ15_nextElement 20 = .ok (.ifCond .le 13, 3) := dk_158 0 13 (dk_at dksJ15_nextElement_0 20 rfl rfl)
theorem dJ15_nextElement_23 : decode cJ15_nextElement 23 = .ok (.aload_n 3, 1) := dk_45 (dk_at dksJ15_nextElement_0 23 rfl rfl)
theorem dJ15_nextElement_24 : decode cJ15_nextElement 24 = .ok (.iinc 2 (-1), 3) := dk_132 2 255 (dk_at dksJ15_nextElement_1 0 rfl rfl)
theorem dJ15_nextElement_27 : decode cJ15_nextElement 27 = .ok (.iload_n 2, 1) := dk_28 (dk_at dksJ15_nextElement_1 3 rfl rfl)
theorem dJ15_nextElement_28 : decode cJ15_nextElement 28 = .ok (.aaload, 1) := dk_50 (dk_at dksJ15_nextElement_1 4 rfl rfl)
theorem dJ15_nextElement_29 : decode cJ15_nextElement 29 = .ok (.astore_n 1, 1) := dk_76 (dk_at dksJ15_nextElement_1 5 rfl rfl)
theorem dJ15_nextElement_30 : decode cJ15_nextElement 30 = .ok (.goto (-15), 3) := dk_167 255 241 (dk_at dksJ15_nextElement_1 6 rfl rfl)
theorem dJ15_nextElement_33 : decode cJ15_nextElement 33 = .ok (.aload_n 0, 1) := dk_42 (dk_at dksJ15_nextElement_1 9 rfl rfl)
theorem dJ15_nextElement_34 : decode cJ15_nextElement 34 = .ok (.aload_n 1, 1) := dk_43 (dk_at dksJ15_nextElement_1 10 rfl rfl)
theorem dJ15_nextElement_35 : decode cJ15_nextElement 35 = .ok (.putfield 37, 3) := dk_181 0 37 (dk_at dksJ15_nextElement_1 11 rfl rfl)
theorem dJ15_nextElement_38 : decode cJ15_nextElement 38 = .ok (.aload_n 0, 1) := dk_42 (dk_at dksJ15_nextElement_1 14 rfl rfl)
theorem dJ15_nextElement_39 : decode cJ15_nextElement 39 = .ok (.iload_n 2, 1) := dk_28 (dk_at dksJ15_nextElement_1 15 rfl rfl)
theorem dJ15_nextElement_40 : decode cJ15_nextElement 40 = .ok (.putfield 20, 3) := dk_181 0 20 (dk_at dksJ15_nextElement_1 16 rfl rfl)
theorem dJ15_nextElement_43 : decode cJ15_nextElement 43 = .ok (.aload_n 1, 1) := dk_43 (dk_at dksJ15_nextElement_1 19 rfl rfl)
theorem dJ15_nextElement_44 : decode cJ15_nextElement 44 = .ok (.ifnull 57, 3) := dk_198 0 57 (dk_at dksJ15_nextElement_1 20 rfl rfl)
theorem dJ15_nextElement_47 : decode cJ15_nextElement 47 = .ok (.aload_n 0, 1) := dk_42 (dk_at dksJ15_nextElement_1 23 rfl rfl)
theorem dJ15_nextElement_48 : decode cJ15_nextElement 48 = .ok (.aload_n 0, 1) := dk_42 (dk_at dksJ15_nextElement_2 0 rfl rfl)
theorem dJ15_nextElement_49 : decode cJ15_nextElement 49 = .ok (.getfield 37, 3) := dk_180 0 37 (dk_at dksJ15_nextElement_2 1 rfl rfl)
theorem dJ15_nextElement_52 : decode cJ15_nextElement 52 = .ok (.dup_x1, 1) := dk_90 (dk_at dksJ15_nextElement_2 4 rfl rfl)
theorem dJ15_nextElement_53 : decode cJ15_nextElement 53 = .ok (.putfield 41, 3) := dk_181 0 41 (dk_at dksJ15_nextElement_2 5 rfl rfl)
theorem dJ15_nextElement_56 : decode cJ15_nextElement 56 = .ok (.astore 4, 2) := dk_58 4 (dk_at dksJ15_nextElement_2 8 rfl rfl)
theorem dJ15_nextElement_58 : decode cJ15_nextElement 58 = .ok (.aload_n 0, 1) := dk_42 (dk_at dksJ15_nextElement_2 10 rfl rfl)
theorem dJ15_nextElement_59 : decode cJ15_nextElement 59 = .ok (.aload 4, 2) := dk_25 4 (dk_at dksJ15_nextElement_2 11 rfl rfl)
theorem dJ15_nextElement_61 : decode cJ15_nextElement 61 = .ok (.getfield 44, 3) := dk_180 0 44 (dk_at dksJ15_nextElement_2 13 rfl rfl)
theorem dJ15_nextElement_64 : decode cJ15_nextElement 64 = .ok (.putfield 37, 3) := dk_181 0 37 (dk_at dksJ15_nextElement_2 16 rfl rfl)
theorem dJ15_nextElement_67 : decode cJ15_nextElement 67 = .ok (.aload_n 0, 1) := dk_42 (dk_at dksJ15_nextElement_2 19 rfl rfl)
theorem dJ15_nextElement_68 : decode cJ15_nextElement 68 = .ok (.getfield 30, 3) := dk_180 0 30 (dk_at dksJ15_nextElement_2 20 rfl rfl)
theorem dJ15_nextElement_71 : decode cJ15_nextElement 71 = .ok (.ifCond .ne 11, 3) := dk_154 0 11 (dk_at dksJ15_nextElement_3 0 rfl rfl)
theorem dJ15_nextElement_74 : decode cJ15_nextElement 74 = .ok (.aload 4, 2) := dk_25 4 (dk_at dksJ15_nextElement_3 3 rfl rfl)
theorem dJ15_nextElement_76 : decode cJ15_nextElement 76 = .ok (.getfield 49, 3) := dk_180 0 49 (dk_at dksJ15_nextElement_3 5 rfl rfl)
theorem dJ15_nextElement_79 : decode cJ15_nextElement 79 = .ok (.goto 21, 3) := dk_167 0 21 (dk_at dksJ15_nextElement_3 8 rfl rfl)
theorem dJ15_nextElement_82 : decode cJ15_nextElement 82 = .ok (.aload_n 0, 1) := dk_42 (dk_at dksJ15_nextElement_3 11 rfl rfl)
theorem dJ15_nextElement_83 : decode cJ15_nextElement 83 = .ok (.getfield 30, 3) := dk_180 0 30 (dk_at dksJ15_nextElement_3 12 rfl rfl)
theorem dJ15_nextElement_86 : decode cJ15_nextElement 86 = .ok (.iconst 1, 1) := dk_4 (dk_at dksJ15_nextElement_3 15 rfl rfl)
theorem dJ15_nextElement_87 : decode cJ15_nextElement 87 = .ok (.if_icmp .ne 11, 3) := dk_160 0 11 (dk_at dksJ15_nextElement_3 16 rfl rfl)
theorem dJ15_nextElement_90 : decode cJ15_nextElement 90 = .ok (.aload 4, 2) := dk_25 4 (dk_at dksJ15_nextElement_3 19 rfl rfl)
theorem dJ15_nextElement_92 : decode cJ15_nextElement 92 = .ok (.getfield 53, 3) := dk_180 0 53 (dk_at dksJ15_nextElement_3 21 rfl rfl)
theorem dJ15_nextElement_95 : decode cJ15_nextElement 95 = .ok (.goto 5, 3) := dk_167 0 5 (dk_at dksJ15_nextElement_4 0 rfl rfl)
theorem dJ15_nextElement_98 : decode cJ15_nextElement 98 = .ok (.aload 4, 2) := dk_25 4 (dk_at dksJ15_nextElement_4 3 rfl rfl)
theorem dJ15_nextElement_100 : decode cJ15_nextElement 100 = .ok (.areturn, 1) := dk_176 (dk_at dksJ15_nextElement_4 5 rfl rfl)
theorem dJ15_nextElement_101 : decode cJ15_nextElement 101 = .ok (.new 56, 3) := dk_187 0 56 (dk_at dksJ15_nextElement_4 6 rfl rfl)
theorem dJ15_nextElement_104 : decode cJ15_nextElement 104 = .ok (.dup, 1) := dk_89 (dk_at dksJ15_nextElement_4 9 rfl rfl)
theorem dJ15_nextElement_105 : decode cJ15_nextElement 105 = .ok (.ldc 58, 2) := dk_18 58 (dk_at dksJ15_nextElement_4 10 rfl rfl)
theorem dJ15_nextElement_107 : decode cJ15_nextElement 107 = .ok (.invokespecial 60, 3) := dk_183 0 60 (dk_at dksJ15_nextElement_4 12 rfl rfl)
theorem dJ15_nextElement_110 : decode cJ15_nextElement 110 = .ok (.athrow, 1) := dk_191 (dk_at dksJ15_nextElement_4 15 rfl rfl)
theorem q24 : (Jvm.Cond.initialized "java/util/Hashtable$Enumerator") ∈ lw_all := lw_g (lw_at lw_m1 19 rfl) rfl
theorem q98 : (Jvm.Cond.fieldLinkNest "java/util/Hashtable$Enumerator" (15 : Nat) "java/util/Hashtable" "table" "[Ljava/util/Hashtable$Entry;" "java/util/Hashtable") ∈ lw_tbl := lw_at lw_m1 93 rfl
theorem q104 : (Jvm.Cond.fieldLinkNest "java/util/Hashtable$Enumerator" (24 : Nat) "java/util/Hashtable" "modCount" "I" "java/util/Hashtable") ∈ lw_tbl := lw_at lw_m1 99 rfl
theorem q197 : (Jvm.Cond.selects "java/util/Hashtable$Enumerator" ({ cls := "java/lang/Object", name := "getClass", desc := "()Ljava/lang/Class;" } : Jvm.MethodName) ({ cls := "java/lang/Object", name := "getClass", desc := "()Ljava/lang/Class;" } : Jvm.MethodName)) ∈ lw_all := lw_g (lw_at lw_m1 192 rfl) rfl
theorem q379 : (Jvm.Cond.fieldLink "java/util/Hashtable$Enumerator" (49 : Nat) "java/util/Hashtable$Entry" "key" "Ljava/lang/Object;") ∈ lw_all := lw_g (lw_at lw_m2 134 rfl) rfl
theorem q382 : (Jvm.Cond.fieldLink "java/util/Hashtable$Enumerator" (53 : Nat) "java/util/Hashtable$Entry" "value" "Ljava/lang/Object;") ∈ lw_all := lw_g (lw_at lw_m2 137 rfl) rfl
theorem q385 : (Jvm.Cond.fieldLink "java/util/Hashtable$Enumerator" (44 : Nat) "java/util/Hashtable$Entry" "next" "Ljava/util/Hashtable$Entry;") ∈ lw_all := lw_g (lw_at lw_m2 140 rfl) rfl
theorem q458 : (Jvm.Cond.instantiable "java/util/Hashtable$Enumerator" (8 : Nat)) ∈ lw_all := lw_g (lw_at lw_m2 213 rfl) rfl
theorem q460 : (Jvm.Cond.instanceMethod ({ cls := "java/util/Hashtable$Enumerator", name := "<init>", desc := "(Ljava/util/Hashtable;IZ)V" } : Jvm.MethodName)) ∈ lw_all := lw_g (lw_at lw_m2 215 rfl) rfl
theorem q461 : (Jvm.Cond.code ({ cls := "java/util/Hashtable$Enumerator", name := "<init>", desc := "(Ljava/util/Hashtable;IZ)V" } : Jvm.MethodName) prog_25_method_1_code (4 : Nat) (Option.none : Option Jvm.ClassFile.FieldType)) ∈ lw_all := lw_g (lw_at lw_m2 216 rfl) rfl
theorem q462 : (Jvm.Cond.methodLink "java/util/Hashtable$Enumerator" (9 : Nat) ({ cls := "java/lang/Object", name := "<init>", desc := "()V" } : Jvm.MethodName)) ∈ lw_all := lw_g (lw_at lw_m2 217 rfl) rfl
theorem q463 : (Jvm.Cond.fieldLink "java/util/Hashtable$Enumerator" (19 : Nat) "java/util/Hashtable$Enumerator" "table" "[Ljava/util/Hashtable$Entry;") ∈ lw_all := lw_g (lw_at lw_m2 218 rfl) rfl
theorem q464 : (Jvm.Cond.fieldLink "java/util/Hashtable$Enumerator" (20 : Nat) "java/util/Hashtable$Enumerator" "index" "I") ∈ lw_all := lw_g (lw_at lw_m2 219 rfl) rfl
theorem q465 : (Jvm.Cond.fieldLink "java/util/Hashtable$Enumerator" (37 : Nat) "java/util/Hashtable$Enumerator" "entry" "Ljava/util/Hashtable$Entry;") ∈ lw_all := lw_g (lw_at lw_m2 220 rfl) rfl
theorem q466 : (Jvm.Cond.fieldLink "java/util/Hashtable$Enumerator" (41 : Nat) "java/util/Hashtable$Enumerator" "lastReturned" "Ljava/util/Hashtable$Entry;") ∈ lw_all := lw_g (lw_at lw_m2 221 rfl) rfl
theorem q467 : (Jvm.Cond.fieldLink "java/util/Hashtable$Enumerator" (30 : Nat) "java/util/Hashtable$Enumerator" "type" "I") ∈ lw_all := lw_g (lw_at lw_m2 222 rfl) rfl
theorem q468 : (Jvm.Cond.fieldLink "java/util/Hashtable$Enumerator" (33 : Nat) "java/util/Hashtable$Enumerator" "iterator" "Z") ∈ lw_all := lw_g (lw_at lw_m2 223 rfl) rfl
theorem q469 : (Jvm.Cond.fieldLink "java/util/Hashtable$Enumerator" (27 : Nat) "java/util/Hashtable$Enumerator" "expectedModCount" "I") ∈ lw_all := lw_g (lw_at lw_m2 224 rfl) rfl
theorem q470 : (Jvm.Cond.fieldLink "java/util/Hashtable$Enumerator" (3 : Nat) "java/util/Hashtable$Enumerator" "this$0" "Ljava/util/Hashtable;") ∈ lw_all := lw_g (lw_at lw_m2 225 rfl) rfl
theorem q471 : (Jvm.Cond.laysFinal "java/util/Hashtable$Enumerator" "java/util/Hashtable$Enumerator" "table" "[Ljava/util/Hashtable$Entry;") ∈ lw_all := lw_g (lw_at lw_m2 226 rfl) rfl
theorem q472 : (Jvm.Cond.soleField "java/util/Hashtable$Enumerator" "table") ∈ lw_all := lw_g (lw_at lw_m2 227 rfl) rfl
theorem q473 : (Jvm.Cond.lays "java/util/Hashtable$Enumerator" "java/util/Hashtable$Enumerator" "index" "I") ∈ lw_all := lw_g (lw_at lw_m2 228 rfl) rfl
theorem q474 : (Jvm.Cond.soleField "java/util/Hashtable$Enumerator" "index") ∈ lw_all := lw_g (lw_at lw_m2 229 rfl) rfl
theorem q475 : (Jvm.Cond.lays "java/util/Hashtable$Enumerator" "java/util/Hashtable$Enumerator" "entry" "Ljava/util/Hashtable$Entry;") ∈ lw_all := lw_g (lw_at lw_m2 230 rfl) rfl
theorem q476 : (Jvm.Cond.soleField "java/util/Hashtable$Enumerator" "entry") ∈ lw_all := lw_g (lw_at lw_m2 231 rfl) rfl
theorem q477 : (Jvm.Cond.lays "java/util/Hashtable$Enumerator" "java/util/Hashtable$Enumerator" "lastReturned" "Ljava/util/Hashtable$Entry;") ∈ lw_all := lw_g (lw_at lw_m2 232 rfl) rfl
theorem q478 : (Jvm.Cond.soleField "java/util/Hashtable$Enumerator" "lastReturned") ∈ lw_all := lw_g (lw_at lw_m2 233 rfl) rfl
theorem q479 : (Jvm.Cond.laysFinal "java/util/Hashtable$Enumerator" "java/util/Hashtable$Enumerator" "type" "I") ∈ lw_all := lw_g (lw_at lw_m2 234 rfl) rfl
theorem q480 : (Jvm.Cond.soleField "java/util/Hashtable$Enumerator" "type") ∈ lw_all := lw_g (lw_at lw_m2 235 rfl) rfl
theorem q481 : (Jvm.Cond.laysFinal "java/util/Hashtable$Enumerator" "java/util/Hashtable$Enumerator" "iterator" "Z") ∈ lw_all := lw_g (lw_at lw_m2 236 rfl) rfl
theorem q482 : (Jvm.Cond.soleField "java/util/Hashtable$Enumerator" "iterator") ∈ lw_all := lw_g (lw_at lw_m2 237 rfl) rfl
theorem q483 : (Jvm.Cond.lays "java/util/Hashtable$Enumerator" "java/util/Hashtable$Enumerator" "expectedModCount" "I") ∈ lw_all := lw_g (lw_at lw_m2 238 rfl) rfl
theorem q484 : (Jvm.Cond.soleField "java/util/Hashtable$Enumerator" "expectedModCount") ∈ lw_all := lw_g (lw_at lw_m2 239 rfl) rfl
theorem q485 : (Jvm.Cond.laysFinal "java/util/Hashtable$Enumerator" "java/util/Hashtable$Enumerator" "this$0" "Ljava/util/Hashtable;") ∈ lw_all := lw_g (lw_at lw_m3 0 rfl) rfl
theorem q486 : (Jvm.Cond.soleField "java/util/Hashtable$Enumerator" "this$0") ∈ lw_all := lw_g (lw_at lw_m3 1 rfl) rfl
theorem q487 : (Jvm.Cond.superclass "java/util/Hashtable$Enumerator" "java/lang/Object") ∈ lw_all := lw_g (lw_at lw_m3 2 rfl) rfl
theorem q498 : (Jvm.Cond.castable "java/util/Hashtable$Enumerator" "java/util/Enumeration") ∈ lw_tbl := lw_at lw_m3 13 rfl
theorem q499 : (Jvm.Cond.selects "java/util/Hashtable$Enumerator" ({ cls := "java/util/Enumeration", name := "hasMoreElements", desc := "()Z" } : Jvm.MethodName) ({ cls := "java/util/Hashtable$Enumerator", name := "hasMoreElements", desc := "()Z" } : Jvm.MethodName)) ∈ lw_all := lw_g (lw_at lw_m3 14 rfl) rfl
theorem q500 : (Jvm.Cond.unhidden "java/util/Hashtable$Enumerator" "hasMoreElements" "()Z") ∈ lw_tbl := lw_at lw_m3 15 rfl
theorem q501 : (Jvm.Cond.instanceMethod ({ cls := "java/util/Hashtable$Enumerator", name := "hasMoreElements", desc := "()Z" } : Jvm.MethodName)) ∈ lw_all := lw_g (lw_at lw_m3 16 rfl) rfl
theorem q502 : (Jvm.Cond.publicMethod ({ cls := "java/util/Hashtable$Enumerator", name := "hasMoreElements", desc := "()Z" } : Jvm.MethodName)) ∈ lw_tbl := lw_at lw_m3 17 rfl
theorem q503 : (Jvm.Cond.code ({ cls := "java/util/Hashtable$Enumerator", name := "hasMoreElements", desc := "()Z" } : Jvm.MethodName) prog_25_method_2_code (4 : Nat) (Option.some Jvm.ClassFile.FieldType.boolean)) ∈ lw_all := lw_g (lw_at lw_m3 18 rfl) rfl
theorem q513 : (Jvm.Cond.selects "java/util/Hashtable$Enumerator" ({ cls := "java/util/Enumeration", name := "nextElement", desc := "()Ljava/lang/Object;" } : Jvm.MethodName) ({ cls := "java/util/Hashtable$Enumerator", name := "nextElement", desc := "()Ljava/lang/Object;" } : Jvm.MethodName)) ∈ lw_all := lw_g (lw_at lw_m3 28 rfl) rfl
theorem q514 : (Jvm.Cond.unhidden "java/util/Hashtable$Enumerator" "nextElement" "()Ljava/lang/Object;") ∈ lw_tbl := lw_at lw_m3 29 rfl
theorem q515 : (Jvm.Cond.instanceMethod ({ cls := "java/util/Hashtable$Enumerator", name := "nextElement", desc := "()Ljava/lang/Object;" } : Jvm.MethodName)) ∈ lw_all := lw_g (lw_at lw_m3 30 rfl) rfl
theorem q516 : (Jvm.Cond.publicMethod ({ cls := "java/util/Hashtable$Enumerator", name := "nextElement", desc := "()Ljava/lang/Object;" } : Jvm.MethodName)) ∈ lw_tbl := lw_at lw_m3 31 rfl
theorem q517 : (Jvm.Cond.code ({ cls := "java/util/Hashtable$Enumerator", name := "nextElement", desc := "()Ljava/lang/Object;" } : Jvm.MethodName) prog_25_method_3_code (5 : Nat) (Option.some (Jvm.ClassFile.FieldType.object "java/lang/Object"))) ∈ lw_all := lw_g (lw_at lw_m3 32 rfl) rfl
theorem q532 : (Jvm.Cond.castable "java/util/Hashtable$Enumerator" "java/lang/Object") ∈ lw_tbl := lw_at lw_m3 47 rfl
theorem in_J15 : ∀ w ∈ wsJ150, w ∈ lw_all := lw_in wsJ150 [471, 473, 475, 477, 479, 481, 483, 485] (by decide +kernel) (by decide +kernel)
theorem q5 : (Jvm.Cond.initialized "LegacyDrillLaw") ∈ lw_all := lw_g (lw_at lw_m1 0 rfl) rfl
set_option maxRecDepth 100000
theorem q25 : (Jvm.Cond.classLink "LegacyDrillLaw" (7 : Nat) "LegacyDrill") ∈ lw_all := lw_g (lw_at lw_m1 20 rfl) rfl
theorem q27 : (Jvm.Cond.methodLink "LegacyDrillLaw" (9 : Nat) ({ cls := "LegacyDrill", name := "<init>", desc := "()V" } : Jvm.MethodName)) ∈ lw_all := lw_g (lw_at lw_m1 22 rfl) rfl
theorem q129 : (Jvm.Cond.methodLink "LegacyDrillLaw" (11 : Nat) ({ cls := "LegacyDrill", name := "push", desc := "(I)I" } : Jvm.MethodName)) ∈ lw_all := lw_g (lw_at lw_m1 124 rfl) rfl
theorem q216 : (Jvm.Cond.methodLink "LegacyDrillLaw" (23 : Nat) ({ cls := "LegacyDrill", name := "pop", desc := "()I" } : Jvm.MethodName)) ∈ lw_all := lw_g (lw_at lw_m1 211 rfl) rfl
theorem q252 : (Jvm.Cond.methodLink "LegacyDrillLaw" (19 : Nat) ({ cls := "LegacyDrill", name := "peek", desc := "()I" } : Jvm.MethodName)) ∈ lw_all := lw_g (lw_at lw_m2 7 rfl) rfl
theorem q257 : (Jvm.Cond.methodLink "LegacyDrillLaw" (15 : Nat) ({ cls := "LegacyDrill", name := "empty", desc := "()Z" } : Jvm.MethodName)) ∈ lw_all := lw_g (lw_at lw_m2 12 rfl) rfl
theorem q265 : (Jvm.Cond.methodLink "LegacyDrillLaw" (26 : Nat) ({ cls := "LegacyDrill", name := "search", desc := "(I)I" } : Jvm.MethodName)) ∈ lw_all := lw_g (lw_at lw_m2 20 rfl) rfl
theorem q294 : (Jvm.Cond.methodLink "LegacyDrillLaw" (29 : Nat) ({ cls := "LegacyDrill", name := "insert", desc := "(II)V" } : Jvm.MethodName)) ∈ lw_all := lw_g (lw_at lw_m2 49 rfl) rfl
theorem q304 : (Jvm.Cond.methodLink "LegacyDrillLaw" (33 : Nat) ({ cls := "LegacyDrill", name := "removeAt", desc := "(I)V" } : Jvm.MethodName)) ∈ lw_all := lw_g (lw_at lw_m2 59 rfl) rfl
theorem q309 : (Jvm.Cond.methodLink "LegacyDrillLaw" (37 : Nat) ({ cls := "LegacyDrill", name := "remove", desc := "(I)Z" } : Jvm.MethodName)) ∈ lw_all := lw_g (lw_at lw_m2 64 rfl) rfl
theorem q330 : (Jvm.Cond.methodLink "LegacyDrillLaw" (44 : Nat) ({ cls := "LegacyDrill", name := "at", desc := "(I)I" } : Jvm.MethodName)) ∈ lw_all := lw_g (lw_at lw_m2 85 rfl) rfl
theorem q335 : (Jvm.Cond.methodLink "LegacyDrillLaw" (41 : Nat) ({ cls := "LegacyDrill", name := "size", desc := "()I" } : Jvm.MethodName)) ∈ lw_all := lw_g (lw_at lw_m2 90 rfl) rfl
theorem q340 : (Jvm.Cond.methodLink "LegacyDrillLaw" (47 : Nat) ({ cls := "LegacyDrill", name := "put", desc := "(III)I" } : Jvm.MethodName)) ∈ lw_all := lw_g (lw_at lw_m2 95 rfl) rfl
theorem q396 : (Jvm.Cond.methodLink "LegacyDrillLaw" (51 : Nat) ({ cls := "LegacyDrill", name := "get", desc := "(II)I" } : Jvm.MethodName)) ∈ lw_all := lw_g (lw_at lw_m2 151 rfl) rfl
theorem q404 : (Jvm.Cond.methodLink "LegacyDrillLaw" (58 : Nat) ({ cls := "LegacyDrill", name := "take", desc := "(II)I" } : Jvm.MethodName)) ∈ lw_all := lw_g (lw_at lw_m2 159 rfl) rfl
theorem q412 : (Jvm.Cond.methodLink "LegacyDrillLaw" (61 : Nat) ({ cls := "LegacyDrill", name := "holds", desc := "(I)Z" } : Jvm.MethodName)) ∈ lw_all := lw_g (lw_at lw_m2 167 rfl) rfl
theorem q420 : (Jvm.Cond.methodLink "LegacyDrillLaw" (55 : Nat) ({ cls := "LegacyDrill", name := "has", desc := "(I)Z" } : Jvm.MethodName)) ∈ lw_all := lw_g (lw_at lw_m2 175 rfl) rfl
theorem q428 : (Jvm.Cond.methodLink "LegacyDrillLaw" (64 : Nat) ({ cls := "LegacyDrill", name := "tableSize", desc := "()I" } : Jvm.MethodName)) ∈ lw_all := lw_g (lw_at lw_m2 183 rfl) rfl
theorem q436 : (Jvm.Cond.methodLink "LegacyDrillLaw" (67 : Nat) ({ cls := "LegacyDrill", name := "sum", desc := "()I" } : Jvm.MethodName)) ∈ lw_all := lw_g (lw_at lw_m2 191 rfl) rfl
theorem q518 : (Jvm.Cond.constant "LegacyDrillLaw" (10 : Nat) (2147483647 : Int32)) ∈ lw_all := lw_g (lw_at lw_m3 33 rfl) rfl
theorem q539 : (Jvm.Cond.castable "[I" "java/lang/Object") ∈ lw_tbl := lw_at lw_m3 54 rfl
set_option maxRecDepth 100000
theorem q534 : (Jvm.Cond.sameMethod "[Ljava/lang/Object;" "java/lang/Object" "getClass" "()Ljava/lang/Class;") ∈ lw_all := lw_g (lw_at lw_m3 49 rfl) rfl
set_option maxRecDepth 100000
theorem q535 : (Jvm.Cond.selects "[Ljava/lang/Object;" ({ cls := "java/lang/Object", name := "getClass", desc := "()Ljava/lang/Class;" } : Jvm.MethodName) ({ cls := "java/lang/Object", name := "getClass", desc := "()Ljava/lang/Class;" } : Jvm.MethodName)) ∈ lw_all := lw_g (lw_at lw_m3 50 rfl) rfl
theorem q537 : (Jvm.Cond.castable "[Ljava/lang/Object;" "java/lang/Object") ∈ lw_tbl := lw_at lw_m3 52 rfl
theorem q538 : (Jvm.Cond.castable "[Ljava/util/Hashtable$Entry;" "java/lang/Object") ∈ lw_tbl := lw_at lw_m3 53 rfl
set_option maxRecDepth 100000
theorem q17 : (Jvm.Cond.initialized "java/lang/Integer$IntegerCache") ∈ lw_all := lw_g (lw_at lw_m1 12 rfl) rfl
set_option maxRecDepth 100000
theorem q137 : (Jvm.Cond.laysStatic "java/lang/Integer$IntegerCache" "high" "I") ∈ lw_tbl := lw_at lw_m1 132 rfl
theorem q139 : (Jvm.Cond.laysStatic "java/lang/Integer$IntegerCache" "cache" "[Ljava/lang/Integer;") ∈ lw_tbl := lw_at lw_m1 134 rfl
theorem q20 : (Jvm.Cond.initialized "java/lang/System") ∈ lw_all := lw_g (lw_at lw_m1 15 rfl) rfl
set_option maxRecDepth 100000
theorem q209 : (Jvm.Cond.static ({ cls := "java/lang/System", name := "arraycopy", desc := "(Ljava/lang/Object;ILjava/lang/Object;II)V" } : Jvm.MethodName)) ∈ lw_all := lw_g (lw_at lw_m1 204 rfl) rfl
theorem q210 : (Jvm.Cond.native ({ cls := "java/lang/System", name := "arraycopy", desc := "(Ljava/lang/Object;ILjava/lang/Object;II)V" } : Jvm.MethodName)) ∈ lw_all := lw_g (lw_at lw_m1 205 rfl) rfl
theorem q490 : (Jvm.Cond.interfaceMethod "java/util/Enumeration" "java/util/Enumeration" "hasMoreElements" "()Z") ∈ lw_tbl := lw_at lw_m3 5 rfl
set_option maxRecDepth 100000
theorem q491 : (Jvm.Cond.declares ({ cls := "java/util/Enumeration", name := "hasMoreElements", desc := "()Z" } : Jvm.MethodName)) ∈ lw_tbl := lw_at lw_m3 6 rfl
theorem q506 : (Jvm.Cond.interfaceMethod "java/util/Enumeration" "java/util/Enumeration" "nextElement" "()Ljava/lang/Object;") ∈ lw_tbl := lw_at lw_m3 21 rfl
theorem q507 : (Jvm.Cond.declares ({ cls := "java/util/Enumeration", name := "nextElement", desc := "()Ljava/lang/Object;" } : Jvm.MethodName)) ∈ lw_tbl := lw_at lw_m3 22 rfl
theorem q55 : (Jvm.Cond.arrayOver (Jvm.ClassFile.FieldType.object "java/lang/Object")) ∈ lw_tbl := lw_at lw_m1 50 rfl
set_option maxRecDepth 100000
theorem q88 : (Jvm.Cond.arrayOver (Jvm.ClassFile.FieldType.object "java/util/Hashtable$Entry")) ∈ lw_tbl := lw_at lw_m1 83 rfl
theorem q519 : (Jvm.Cond.arrayClass Jvm.ClassFile.FieldType.int) ∈ lw_all := lw_g (lw_at lw_m3 34 rfl) rfl
/-! LegacyDrill -/
set_option maxRecDepth 100000
def RX0 : String := "LegacyDrill"
def TX0 : u_T := fun k => match k with
  | 0 => ("LegacyDrill", "pile", "Ljava/util/Stack;", true)
  | _ => ("LegacyDrill", "table", "Ljava/util/Hashtable;", true)
def tyX0 : Nat → FieldType := fun k => match k with
  | 0 => .object "java/util/Stack"
  | _ => .object "java/util/Hashtable"
abbrev wsX00 : List Cond := u_ws RX0 TX0 2
theorem nmX0 : ∀ a, a < 2 → ∀ b, b < 2 → a ≠ b → (TX0 a).2.1 ≠ (TX0 b).2.1 := by decide +kernel
theorem tyX0_ok : ∀ k, k < 2 → parseFieldDescriptor (TX0 k).2.2.1 = some (tyX0 k) := by decide +kernel
abbrev cX0_init : ByteArray := prog_1_method_1_code
def yX0_init : MethodName := ⟨RX0, "<init>", "()V"⟩
def dkwX0_init_1 : List UInt8 := [181, 0, 19, 177]
abbrev dktX0_init_1 : List UInt8 := dkwX0_init_1 ++ []
def dkwX0_init_0 : List UInt8 := [42, 183, 0, 1, 42, 187, 0, 7, 89, 183, 0, 9, 181, 0, 10, 42, 187, 0, 16, 89, 183, 0, 18]
abbrev dktX0_init_0 : List UInt8 := dkwX0_init_0 ++ dktX0_init_1
theorem dksX0_init_0 : cX0_init.data.toList.drop 0 = dktX0_init_0 := by decide +kernel
theorem dksX0_init_1 : cX0_init.data.toList.drop 23 = dktX0_init_1 := dk_seg dksX0_init_0 23 rfl rfl
theorem dX0_init_0 : decode cX0_init 0 = .ok (.aload_n 0, 1) := dk_42 (dk_at dksX0_init_0 0 rfl rfl)
theorem dX0_init_1 : decode cX0_init 1 = .ok (.invokespecial 1, 3) := dk_183 0 1 (dk_at dksX0_init_0 1 rfl rfl)
theorem dX0_init_4 : decode cX0_init 4 = .ok (.aload_n 0, 1) := dk_42 (dk_at dksX0_init_0 4 rfl rfl)
theorem dX0_init_5 : decode cX0_init 5 = .ok (.new 7, 3) := dk_187 0 7 (dk_at dksX0_init_0 5 rfl rfl)
theorem dX0_init_8 : decode cX0_init 8 = .ok (.dup, 1) := dk_89 (dk_at dksX0_init_0 8 rfl rfl)
theorem dX0_init_9 : decode cX0_init 9 = .ok (.invokespecial 9, 3) := dk_183 0 9 (dk_at dksX0_init_0 9 rfl rfl)
theorem dX0_init_12 : decode cX0_init 12 = .ok (.putfield 10, 3) := dk_181 0 10 (dk_at dksX0_init_0 12 rfl rfl)
theorem dX0_init_15 : decode cX0_init 15 = .ok (.aload_n 0, 1) := dk_42 (dk_at dksX0_init_0 15 rfl rfl)
theorem dX0_init_16 : decode cX0_init 16 = .ok (.new 16, 3) := dk_187 0 16 (dk_at dksX0_init_0 16 rfl rfl)
theorem dX0_init_19 : decode cX0_init 19 = .ok (.dup, 1) := dk_89 (dk_at dksX0_init_0 19 rfl rfl)
theorem dX0_init_20 : decode cX0_init 20 = .ok (.invokespecial 18, 3) := dk_183 0 18 (dk_at dksX0_init_0 20 rfl rfl)
theorem dX0_init_23 : decode cX0_init 23 = .ok (.putfield 19, 3) := dk_181 0 19 (dk_at dksX0_init_1 0 rfl rfl)
theorem dX0_init_26 : decode cX0_init 26 = .ok (.return_, 1) := dk_177 (dk_at dksX0_init_1 3 rfl rfl)
abbrev cX0_push : ByteArray := prog_1_method_2_code
def yX0_push : MethodName := ⟨RX0, "push", "(I)I"⟩
def dkwX0_push_0 : List UInt8 := [42, 180, 0, 10, 27, 184, 0, 23, 182, 0, 29, 192, 0, 24, 182, 0, 33, 172]
abbrev dktX0_push_0 : List UInt8 := dkwX0_push_0 ++ []
theorem dksX0_push_0 : cX0_push.data.toList.drop 0 = dktX0_push_0 := by decide +kernel
theorem dX0_push_0 : decode cX0_push 0 = .ok (.aload_n 0, 1) := dk_42 (dk_at dksX0_push_0 0 rfl rfl)
theorem dX0_push_1 : decode cX0_push 1 = .ok (.getfield 10, 3) := dk_180 0 10 (dk_at dksX0_push_0 1 rfl rfl)
theorem dX0_push_4 : decode cX0_push 4 = .ok (.iload_n 1, 1) := dk_27 (dk_at dksX0_push_0 4 rfl rfl)
theorem dX0_push_5 : decode cX0_push 5 = .ok (.invokestatic 23, 3) := dk_184 0 23 (dk_at dksX0_push_0 5 rfl rfl)
theorem dX0_push_8 : decode cX0_push 8 = .ok (.invokevirtual 29, 3) := dk_182 0 29 (dk_at dksX0_push_0 8 rfl rfl)
theorem dX0_push_11 : decode cX0_push 11 = .ok (.checkcast 24, 3) := dk_192 0 24 (dk_at dksX0_push_0 11 rfl rfl)
theorem dX0_push_14 : decode cX0_push 14 = .ok (.invokevirtual 33, 3) := dk_182 0 33 (dk_at dksX0_push_0 14 rfl rfl)
theorem dX0_push_17 : decode cX0_push 17 = .ok (.ireturn, 1) := dk_172 (dk_at dksX0_push_0 17 rfl rfl)
abbrev cX0_pop : ByteArray := prog_1_method_3_code
def yX0_pop : MethodName := ⟨RX0, "pop", "()I"⟩
def dkwX0_pop_0 : List UInt8 := [42, 180, 0, 10, 182, 0, 37, 192, 0, 24, 182, 0, 33, 172]
abbrev dktX0_pop_0 : List UInt8 := dkwX0_pop_0 ++ []
theorem dksX0_pop_0 : cX0_pop.data.toList.drop 0 = dktX0_pop_0 := by decide +kernel
theorem dX0_pop_0 : decode cX0_pop 0 = .ok (.aload_n 0, 1) := dk_42 (dk_at dksX0_pop_0 0 rfl rfl)
theorem dX0_pop_1 : decode cX0_pop 1 = .ok (.getfield 10, 3) := dk_180 0 10 (dk_at dksX0_pop_0 1 rfl rfl)
theorem dX0_pop_4 : decode cX0_pop 4 = .ok (.invokevirtual 37, 3) := dk_182 0 37 (dk_at dksX0_pop_0 4 rfl rfl)
theorem dX0_pop_7 : decode cX0_pop 7 = .ok (.checkcast 24, 3) := dk_192 0 24 (dk_at dksX0_pop_0 7 rfl rfl)
theorem dX0_pop_10 : decode cX0_pop 10 = .ok (.invokevirtual 33, 3) := dk_182 0 33 (dk_at dksX0_pop_0 10 rfl rfl)
theorem dX0_pop_13 : decode cX0_pop 13 = .ok (.ireturn, 1) := dk_172 (dk_at dksX0_pop_0 13 rfl rfl)
abbrev cX0_peek : ByteArray := prog_1_method_4_code
def yX0_peek : MethodName := ⟨RX0, "peek", "()I"⟩
def dkwX0_peek_0 : List UInt8 := [42, 180, 0, 10, 182, 0, 41, 192, 0, 24, 182, 0, 33, 172]
abbrev dktX0_peek_0 : List UInt8 := dkwX0_peek_0 ++ []
theorem dksX0_peek_0 : cX0_peek.data.toList.drop 0 = dktX0_peek_0 := by decide +kernel
theorem dX0_peek_0 : decode cX0_peek 0 = .ok (.aload_n 0, 1) := dk_42 (dk_at dksX0_peek_0 0 rfl rfl)
theorem dX0_peek_1 : decode cX0_peek 1 = .ok (.getfield 10, 3) := dk_180 0 10 (dk_at dksX0_peek_0 1 rfl rfl)
theorem dX0_peek_4 : decode cX0_peek 4 = .ok (.invokevirtual 41, 3) := dk_182 0 41 (dk_at dksX0_peek_0 4 rfl rfl)
theorem dX0_peek_7 : decode cX0_peek 7 = .ok (.checkcast 24, 3) := dk_192 0 24 (dk_at dksX0_peek_0 7 rfl rfl)
theorem dX0_peek_10 : decode cX0_peek 10 = .ok (.invokevirtual 33, 3) := dk_182 0 33 (dk_at dksX0_peek_0 10 rfl rfl)
theorem dX0_peek_13 : decode cX0_peek 13 = .ok (.ireturn, 1) := dk_172 (dk_at dksX0_peek_0 13 rfl rfl)
abbrev cX0_empty : ByteArray := prog_1_method_5_code
def yX0_empty : MethodName := ⟨RX0, "empty", "()Z"⟩
def dkwX0_empty_0 : List UInt8 := [42, 180, 0, 10, 182, 0, 44, 172]
abbrev dktX0_empty_0 : List UInt8 := dkwX0_empty_0 ++ []
theorem dksX0_empty_0 : cX0_empty.data.toList.drop 0 = dktX0_empty_0 := by decide +kernel
theorem dX0_empty_0 : decode cX0_empty 0 = .ok (.aload_n 0, 1) := dk_42 (dk_at dksX0_empty_0 0 rfl rfl)
theorem dX0_empty_1 : decode cX0_empty 1 = .ok (.getfield 10, 3) := dk_180 0 10 (dk_at dksX0_empty_0 1 rfl rfl)
theorem dX0_empty_4 : decode cX0_empty 4 = .ok (.invokevirtual 44, 3) := dk_182 0 44 (dk_at dksX0_empty_0 4 rfl rfl)
theorem dX0_empty_7 : decode cX0_empty 7 = .ok (.ireturn, 1) := dk_172 (dk_at dksX0_empty_0 7 rfl rfl)
abbrev cX0_search : ByteArray := prog_1_method_6_code
def yX0_search : MethodName := ⟨RX0, "search", "(I)I"⟩
def dkwX0_search_0 : List UInt8 := [42, 180, 0, 10, 27, 184, 0, 23, 182, 0, 48, 172]
abbrev dktX0_search_0 : List UInt8 := dkwX0_search_0 ++ []
theorem dksX0_search_0 : cX0_search.data.toList.drop 0 = dktX0_search_0 := by decide +kernel
theorem dX0_search_0 : decode cX0_search 0 = .ok (.aload_n 0, 1) := dk_42 (dk_at dksX0_search_0 0 rfl rfl)
theorem dX0_search_1 : decode cX0_search 1 = .ok (.getfield 10, 3) := dk_180 0 10 (dk_at dksX0_search_0 1 rfl rfl)
theorem dX0_search_4 : decode cX0_search 4 = .ok (.iload_n 1, 1) := dk_27 (dk_at dksX0_search_0 4 rfl rfl)
theorem dX0_search_5 : decode cX0_search 5 = .ok (.invokestatic 23, 3) := dk_184 0 23 (dk_at dksX0_search_0 5 rfl rfl)
theorem dX0_search_8 : decode cX0_search 8 = .ok (.invokevirtual 48, 3) := dk_182 0 48 (dk_at dksX0_search_0 8 rfl rfl)
theorem dX0_search_11 : decode cX0_search 11 = .ok (.ireturn, 1) := dk_172 (dk_at dksX0_search_0 11 rfl rfl)
abbrev cX0_insert : ByteArray := prog_1_method_7_code
def yX0_insert : MethodName := ⟨RX0, "insert", "(II)V"⟩
def dkwX0_insert_0 : List UInt8 := [42, 180, 0, 10, 27, 184, 0, 23, 28, 182, 0, 52, 177]
abbrev dktX0_insert_0 : List UInt8 := dkwX0_insert_0 ++ []
theorem dksX0_insert_0 : cX0_insert.data.toList.drop 0 = dktX0_insert_0 := by decide +kernel
theorem dX0_insert_0 : decode cX0_insert 0 = .ok (.aload_n 0, 1) := dk_42 (dk_at dksX0_insert_0 0 rfl rfl)
theorem dX0_insert_1 : decode cX0_insert 1 = .ok (.getfield 10, 3) := dk_180 0 10 (dk_at dksX0_insert_0 1 rfl rfl)
theorem dX0_insert_4 : decode cX0_insert 4 = .ok (.iload_n 1, 1) := dk_27 (dk_at dksX0_insert_0 4 rfl rfl)
theorem dX0_insert_5 : decode cX0_insert 5 = .ok (.invokestatic 23, 3) := dk_184 0 23 (dk_at dksX0_insert_0 5 rfl rfl)
theorem dX0_insert_8 : decode cX0_insert 8 = .ok (.iload_n 2, 1) := dk_28 (dk_at dksX0_insert_0 8 rfl rfl)
theorem dX0_insert_9 : decode cX0_insert 9 = .ok (.invokevirtual 52, 3) := dk_182 0 52 (dk_at dksX0_insert_0 9 rfl rfl)
theorem dX0_insert_12 : decode cX0_insert 12 = .ok (.return_, 1) := dk_177 (dk_at dksX0_insert_0 12 rfl rfl)
abbrev cX0_removeAt : ByteArray := prog_1_method_8_code
def yX0_removeAt : MethodName := ⟨RX0, "removeAt", "(I)V"⟩
def dkwX0_removeAt_0 : List UInt8 := [42, 180, 0, 10, 27, 182, 0, 56, 177]
abbrev dktX0_removeAt_0 : List UInt8 := dkwX0_removeAt_0 ++ []
theorem dksX0_removeAt_0 : cX0_removeAt.data.toList.drop 0 = dktX0_removeAt_0 := by decide +kernel
theorem dX0_removeAt_0 : decode cX0_removeAt 0 = .ok (.aload_n 0, 1) := dk_42 (dk_at dksX0_removeAt_0 0 rfl rfl)
theorem dX0_removeAt_1 : decode cX0_removeAt 1 = .ok (.getfield 10, 3) := dk_180 0 10 (dk_at dksX0_removeAt_0 1 rfl rfl)
theorem dX0_removeAt_4 : decode cX0_removeAt 4 = .ok (.iload_n 1, 1) := dk_27 (dk_at dksX0_removeAt_0 4 rfl rfl)
theorem dX0_removeAt_5 : decode cX0_removeAt 5 = .ok (.invokevirtual 56, 3) := dk_182 0 56 (dk_at dksX0_removeAt_0 5 rfl rfl)
theorem dX0_removeAt_8 : decode cX0_removeAt 8 = .ok (.return_, 1) := dk_177 (dk_at dksX0_removeAt_0 8 rfl rfl)
abbrev cX0_remove : ByteArray := prog_1_method_9_code
def yX0_remove : MethodName := ⟨RX0, "remove", "(I)Z"⟩
def dkwX0_remove_0 : List UInt8 := [42, 180, 0, 10, 27, 184, 0, 23, 182, 0, 60, 172]
abbrev dktX0_remove_0 : List UInt8 := dkwX0_remove_0 ++ []
theorem dksX0_remove_0 : cX0_remove.data.toList.drop 0 = dktX0_remove_0 := by decide +kernel
theorem dX0_remove_0 : decode cX0_remove 0 = .ok (.aload_n 0, 1) := dk_42 (dk_at dksX0_remove_0 0 rfl rfl)
theorem dX0_remove_1 : decode cX0_remove 1 = .ok (.getfield 10, 3) := dk_180 0 10 (dk_at dksX0_remove_0 1 rfl rfl)
theorem dX0_remove_4 : decode cX0_remove 4 = .ok (.iload_n 1, 1) := dk_27 (dk_at dksX0_remove_0 4 rfl rfl)
theorem dX0_remove_5 : decode cX0_remove 5 = .ok (.invokestatic 23, 3) := dk_184 0 23 (dk_at dksX0_remove_0 5 rfl rfl)
theorem dX0_remove_8 : decode cX0_remove 8 = .ok (.invokevirtual 60, 3) := dk_182 0 60 (dk_at dksX0_remove_0 8 rfl rfl)
theorem dX0_remove_11 : decode cX0_remove 11 = .ok (.ireturn, 1) := dk_172 (dk_at dksX0_remove_0 11 rfl rfl)
abbrev cX0_at : ByteArray := prog_1_method_10_code
def yX0_at : MethodName := ⟨RX0, "at", "(I)I"⟩
def dkwX0_at_0 : List UInt8 := [42, 180, 0, 10, 27, 182, 0, 64, 192, 0, 24, 182, 0, 33, 172]
abbrev dktX0_at_0 : List UInt8 := dkwX0_at_0 ++ []
theorem dksX0_at_0 : cX0_at.data.toList.drop 0 = dktX0_at_0 := by decide +kernel
theorem dX0_at_0 : decode cX0_at 0 = .ok (.aload_n 0, 1) := dk_42 (dk_at dksX0_at_0 0 rfl rfl)
theorem dX0_at_1 : decode cX0_at 1 = .ok (.getfield 10, 3) := dk_180 0 10 (dk_at dksX0_at_0 1 rfl rfl)
theorem dX0_at_4 : decode cX0_at 4 = .ok (.iload_n 1, 1) := dk_27 (dk_at dksX0_at_0 4 rfl rfl)
theorem dX0_at_5 : decode cX0_at 5 = .ok (.invokevirtual 64, 3) := dk_182 0 64 (dk_at dksX0_at_0 5 rfl rfl)
theorem dX0_at_8 : decode cX0_at 8 = .ok (.checkcast 24, 3) := dk_192 0 24 (dk_at dksX0_at_0 8 rfl rfl)
theorem dX0_at_11 : decode cX0_at 11 = .ok (.invokevirtual 33, 3) := dk_182 0 33 (dk_at dksX0_at_0 11 rfl rfl)
theorem dX0_at_14 : decode cX0_at 14 = .ok (.ireturn, 1) := dk_172 (dk_at dksX0_at_0 14 rfl rfl)
abbrev cX0_size : ByteArray := prog_1_method_11_code
def yX0_size : MethodName := ⟨RX0, "size", "()I"⟩
def dkwX0_size_0 : List UInt8 := [42, 180, 0, 10, 182, 0, 68, 172]
abbrev dktX0_size_0 : List UInt8 := dkwX0_size_0 ++ []
theorem dksX0_size_0 : cX0_size.data.toList.drop 0 = dktX0_size_0 := by decide +kernel
theorem dX0_size_0 : decode cX0_size 0 = .ok (.aload_n 0, 1) := dk_42 (dk_at dksX0_size_0 0 rfl rfl)
theorem dX0_size_1 : decode cX0_size 1 = .ok (.getfield 10, 3) := dk_180 0 10 (dk_at dksX0_size_0 1 rfl rfl)
theorem dX0_size_4 : decode cX0_size 4 = .ok (.invokevirtual 68, 3) := dk_182 0 68 (dk_at dksX0_size_0 4 rfl rfl)
theorem dX0_size_7 : decode cX0_size 7 = .ok (.ireturn, 1) := dk_172 (dk_at dksX0_size_0 7 rfl rfl)
abbrev cX0_put : ByteArray := prog_1_method_12_code
def yX0_put : MethodName := ⟨RX0, "put", "(III)I"⟩
def dkwX0_put_1 : List UInt8 := [199, 0, 7, 29, 167, 0, 8, 25, 4, 182, 0, 33, 172]
abbrev dktX0_put_1 : List UInt8 := dkwX0_put_1 ++ []
def dkwX0_put_0 : List UInt8 := [42, 180, 0, 19, 27, 184, 0, 23, 28, 184, 0, 23, 182, 0, 71, 192, 0, 24, 58, 4, 25, 4]
abbrev dktX0_put_0 : List UInt8 := dkwX0_put_0 ++ dktX0_put_1
theorem dksX0_put_0 : cX0_put.data.toList.drop 0 = dktX0_put_0 := by decide +kernel
theorem dksX0_put_1 : cX0_put.data.toList.drop 22 = dktX0_put_1 := dk_seg dksX0_put_0 22 rfl rfl
theorem dX0_put_0 : decode cX0_put 0 = .ok (.aload_n 0, 1) := dk_42 (dk_at dksX0_put_0 0 rfl rfl)
theorem dX0_put_1 : decode cX0_put 1 = .ok (.getfield 19, 3) := dk_180 0 19 (dk_at dksX0_put_0 1 rfl rfl)
theorem dX0_put_4 : decode cX0_put 4 = .ok (.iload_n 1, 1) := dk_27 (dk_at dksX0_put_0 4 rfl rfl)
theorem dX0_put_5 : decode cX0_put 5 = .ok (.invokestatic 23, 3) := dk_184 0 23 (dk_at dksX0_put_0 5 rfl rfl)
theorem dX0_put_8 : decode cX0_put 8 = .ok (.iload_n 2, 1) := dk_28 (dk_at dksX0_put_0 8 rfl rfl)
theorem dX0_put_9 : decode cX0_put 9 = .ok (.invokestatic 23, 3) := dk_184 0 23 (dk_at dksX0_put_0 9 rfl rfl)
theorem dX0_put_12 : decode cX0_put 12 = .ok (.invokevirtual 71, 3) := dk_182 0 71 (dk_at dksX0_put_0 12 rfl rfl)
theorem dX0_put_15 : decode cX0_put 15 = .ok (.checkcast 24, 3) := dk_192 0 24 (dk_at dksX0_put_0 15 rfl rfl)
theorem dX0_put_18 : decode cX0_put 18 = .ok (.astore 4, 2) := dk_58 4 (dk_at dksX0_put_0 18 rfl rfl)
theorem dX0_put_20 : decode cX0_put 20 = .ok (.aload 4, 2) := dk_25 4 (dk_at dksX0_put_0 20 rfl rfl)
theorem dX0_put_22 : decode cX0_put 22 = .ok (.ifnonnull 7, 3) := dk_199 0 7 (dk_at dksX0_put_1 0 rfl rfl)
theorem dX0_put_25 : decode cX0_put 25 = .ok (.iload_n 3, 1) := dk_29 (dk_at dksX0_put_1 3 rfl rfl)
theorem dX0_put_26 : decode cX0_put 26 = .ok (.goto 8, 3) := dk_167 0 8 (dk_at dksX0_put_1 4 rfl rfl)
theorem dX0_put_29 : decode cX0_put 29 = .ok (.aload 4, 2) := dk_25 4 (dk_at dksX0_put_1 7 rfl rfl)
theorem dX0_put_31 : decode cX0_put 31 = .ok (.invokevirtual 33, 3) := dk_182 0 33 (dk_at dksX0_put_1 9 rfl rfl)
theorem dX0_put_34 : decode cX0_put 34 = .ok (.ireturn, 1) := dk_172 (dk_at dksX0_put_1 12 rfl rfl)
abbrev cX0_get : ByteArray := prog_1_method_13_code
def yX0_get : MethodName := ⟨RX0, "get", "(II)I"⟩
def dkwX0_get_1 : List UInt8 := [182, 0, 33, 172]
abbrev dktX0_get_1 : List UInt8 := dkwX0_get_1 ++ []
def dkwX0_get_0 : List UInt8 := [42, 180, 0, 19, 27, 184, 0, 23, 182, 0, 75, 192, 0, 24, 78, 45, 199, 0, 7, 28, 167, 0, 7, 45]
abbrev dktX0_get_0 : List UInt8 := dkwX0_get_0 ++ dktX0_get_1
theorem dksX0_get_0 : cX0_get.data.toList.drop 0 = dktX0_get_0 := by decide +kernel
theorem dksX0_get_1 : cX0_get.data.toList.drop 24 = dktX0_get_1 := dk_seg dksX0_get_0 24 rfl rfl
theorem dX0_get_0 : decode cX0_get 0 = .ok (.aload_n 0, 1) := dk_42 (dk_at dksX0_get_0 0 rfl rfl)
theorem dX0_get_1 : decode cX0_get 1 = .ok (.getfield 19, 3) := dk_180 0 19 (dk_at dksX0_get_0 1 rfl rfl)
theorem dX0_get_4 : decode cX0_get 4 = .ok (.iload_n 1, 1) := dk_27 (dk_at dksX0_get_0 4 rfl rfl)
theorem dX0_get_5 : decode cX0_get 5 = .ok (.invokestatic 23, 3) := dk_184 0 23 (dk_at dksX0_get_0 5 rfl rfl)
theorem dX0_get_8 : decode cX0_get 8 = .ok (.invokevirtual 75, 3) := dk_182 0 75 (dk_at dksX0_get_0 8 rfl rfl)
theorem dX0_get_11 : decode cX0_get 11 = .ok (.checkcast 24, 3) := dk_192 0 24 (dk_at dksX0_get_0 11 rfl rfl)
theorem dX0_get_14 : decode cX0_get 14 = .ok (.astore_n 3, 1) := dk_78 (dk_at dksX0_get_0 14 rfl rfl)
theorem dX0_get_15 : decode cX0_get 15 = .ok (.aload_n 3, 1) := dk_45 (dk_at dksX0_get_0 15 rfl rfl)
theorem dX0_get_16 : decode cX0_get 16 = .ok (.ifnonnull 7, 3) := dk_199 0 7 (dk_at dksX0_get_0 16 rfl rfl)
theorem dX0_get_19 : decode cX0_get 19 = .ok (.iload_n 2, 1) := dk_28 (dk_at dksX0_get_0 19 rfl rfl)
theorem dX0_get_20 : decode cX0_get 20 = .ok (.goto 7, 3) := dk_167 0 7 (dk_at dksX0_get_0 20 rfl rfl)
theorem dX0_get_23 : decode cX0_get 23 = .ok (.aload_n 3, 1) := dk_45 (dk_at dksX0_get_0 23 rfl rfl)
theorem dX0_get_24 : decode cX0_get 24 = .ok (.invokevirtual 33, 3) := dk_182 0 33 (dk_at dksX0_get_1 0 rfl rfl)
theorem dX0_get_27 : decode cX0_get 27 = .ok (.ireturn, 1) := dk_172 (dk_at dksX0_get_1 3 rfl rfl)
abbrev cX0_take : ByteArray := prog_1_method_14_code
def yX0_take : MethodName := ⟨RX0, "take", "(II)I"⟩
def dkwX0_take_1 : List UInt8 := [182, 0, 33, 172]
abbrev dktX0_take_1 : List UInt8 := dkwX0_take_1 ++ []
def dkwX0_take_0 : List UInt8 := [42, 180, 0, 19, 27, 184, 0, 23, 182, 0, 78, 192, 0, 24, 78, 45, 199, 0, 7, 28, 167, 0, 7, 45]
abbrev dktX0_take_0 : List UInt8 := dkwX0_take_0 ++ dktX0_take_1
theorem dksX0_take_0 : cX0_take.data.toList.drop 0 = dktX0_take_0 := by decide +kernel
theorem dksX0_take_1 : cX0_take.data.toList.drop 24 = dktX0_take_1 := dk_seg dksX0_take_0 24 rfl rfl
theorem dX0_take_0 : decode cX0_take 0 = .ok (.aload_n 0, 1) := dk_42 (dk_at dksX0_take_0 0 rfl rfl)
theorem dX0_take_1 : decode cX0_take 1 = .ok (.getfield 19, 3) := dk_180 0 19 (dk_at dksX0_take_0 1 rfl rfl)
theorem dX0_take_4 : decode cX0_take 4 = .ok (.iload_n 1, 1) := dk_27 (dk_at dksX0_take_0 4 rfl rfl)
theorem dX0_take_5 : decode cX0_take 5 = .ok (.invokestatic 23, 3) := dk_184 0 23 (dk_at dksX0_take_0 5 rfl rfl)
theorem dX0_take_8 : decode cX0_take 8 = .ok (.invokevirtual 78, 3) := dk_182 0 78 (dk_at dksX0_take_0 8 rfl rfl)
theorem dX0_take_11 : decode cX0_take 11 = .ok (.checkcast 24, 3) := dk_192 0 24 (dk_at dksX0_take_0 11 rfl rfl)
theorem dX0_take_14 : decode cX0_take 14 = .ok (.astore_n 3, 1) := dk_78 (dk_at dksX0_take_0 14 rfl rfl)
theorem dX0_take_15 : decode cX0_take 15 = .ok (.aload_n 3, 1) := dk_45 (dk_at dksX0_take_0 15 rfl rfl)
theorem dX0_take_16 : decode cX0_take 16 = .ok (.ifnonnull 7, 3) := dk_199 0 7 (dk_at dksX0_take_0 16 rfl rfl)
theorem dX0_take_19 : decode cX0_take 19 = .ok (.iload_n 2, 1) := dk_28 (dk_at dksX0_take_0 19 rfl rfl)
theorem dX0_take_20 : decode cX0_take 20 = .ok (.goto 7, 3) := dk_167 0 7 (dk_at dksX0_take_0 20 rfl rfl)
theorem dX0_take_23 : decode cX0_take 23 = .ok (.aload_n 3, 1) := dk_45 (dk_at dksX0_take_0 23 rfl rfl)
theorem dX0_take_24 : decode cX0_take 24 = .ok (.invokevirtual 33, 3) := dk_182 0 33 (dk_at dksX0_take_1 0 rfl rfl)
theorem dX0_take_27 : decode cX0_take 27 = .ok (.ireturn, 1) := dk_172 (dk_at dksX0_take_1 3 rfl rfl)
abbrev cX0_holds : ByteArray := prog_1_method_15_code
def yX0_holds : MethodName := ⟨RX0, "holds", "(I)Z"⟩
def dkwX0_holds_0 : List UInt8 := [42, 180, 0, 19, 27, 184, 0, 23, 182, 0, 81, 172]
abbrev dktX0_holds_0 : List UInt8 := dkwX0_holds_0 ++ []
theorem dksX0_holds_0 : cX0_holds.data.toList.drop 0 = dktX0_holds_0 := by decide +kernel
theorem dX0_holds_0 : decode cX0_holds 0 = .ok (.aload_n 0, 1) := dk_42 (dk_at dksX0_holds_0 0 rfl rfl)
theorem dX0_holds_1 : decode cX0_holds 1 = .ok (.getfield 19, 3) := dk_180 0 19 (dk_at dksX0_holds_0 1 rfl rfl)
theorem dX0_holds_4 : decode cX0_holds 4 = .ok (.iload_n 1, 1) := dk_27 (dk_at dksX0_holds_0 4 rfl rfl)
theorem dX0_holds_5 : decode cX0_holds 5 = .ok (.invokestatic 23, 3) := dk_184 0 23 (dk_at dksX0_holds_0 5 rfl rfl)
theorem dX0_holds_8 : decode cX0_holds 8 = .ok (.invokevirtual 81, 3) := dk_182 0 81 (dk_at dksX0_holds_0 8 rfl rfl)
theorem dX0_holds_11 : decode cX0_holds 11 = .ok (.ireturn, 1) := dk_172 (dk_at dksX0_holds_0 11 rfl rfl)
abbrev cX0_has : ByteArray := prog_1_method_16_code
def yX0_has : MethodName := ⟨RX0, "has", "(I)Z"⟩
def dkwX0_has_0 : List UInt8 := [42, 180, 0, 19, 27, 184, 0, 23, 182, 0, 84, 172]
abbrev dktX0_has_0 : List UInt8 := dkwX0_has_0 ++ []
theorem dksX0_has_0 : cX0_has.data.toList.drop 0 = dktX0_has_0 := by decide +kernel
theorem dX0_has_0 : decode cX0_has 0 = .ok (.aload_n 0, 1) := dk_42 (dk_at dksX0_has_0 0 rfl rfl)
theorem dX0_has_1 : decode cX0_has 1 = .ok (.getfield 19, 3) := dk_180 0 19 (dk_at dksX0_has_0 1 rfl rfl)
theorem dX0_has_4 : decode cX0_has 4 = .ok (.iload_n 1, 1) := dk_27 (dk_at dksX0_has_0 4 rfl rfl)
theorem dX0_has_5 : decode cX0_has 5 = .ok (.invokestatic 23, 3) := dk_184 0 23 (dk_at dksX0_has_0 5 rfl rfl)
theorem dX0_has_8 : decode cX0_has 8 = .ok (.invokevirtual 84, 3) := dk_182 0 84 (dk_at dksX0_has_0 8 rfl rfl)
theorem dX0_has_11 : decode cX0_has 11 = .ok (.ireturn, 1) := dk_172 (dk_at dksX0_has_0 11 rfl rfl)
abbrev cX0_tableSize : ByteArray := prog_1_method_17_code
def yX0_tableSize : MethodName := ⟨RX0, "tableSize", "()I"⟩
def dkwX0_tableSize_0 : List UInt8 := [42, 180, 0, 19, 182, 0, 87, 172]
abbrev dktX0_tableSize_0 : List UInt8 := dkwX0_tableSize_0 ++ []
theorem dksX0_tableSize_0 : cX0_tableSize.data.toList.drop 0 = dktX0_tableSize_0 := by decide +kernel
theorem dX0_tableSize_0 : decode cX0_tableSize 0 = .ok (.aload_n 0, 1) := dk_42 (dk_at dksX0_tableSize_0 0 rfl rfl)
theorem dX0_tableSize_1 : decode cX0_tableSize 1 = .ok (.getfield 19, 3) := dk_180 0 19 (dk_at dksX0_tableSize_0 1 rfl rfl)
theorem dX0_tableSize_4 : decode cX0_tableSize 4 = .ok (.invokevirtual 87, 3) := dk_182 0 87 (dk_at dksX0_tableSize_0 4 rfl rfl)
theorem dX0_tableSize_7 : decode cX0_tableSize 7 = .ok (.ireturn, 1) := dk_172 (dk_at dksX0_tableSize_0 7 rfl rfl)
abbrev cX0_sum : ByteArray := prog_1_method_18_code
def yX0_sum : MethodName := ⟨RX0, "sum", "()I"⟩
def dkwX0_sum_3 : List UInt8 := [167, 255, 209, 27, 172]
abbrev dktX0_sum_3 : List UInt8 := dkwX0_sum_3 ++ []
def dkwX0_sum_2 : List UInt8 := [16, 31, 104, 42, 180, 0, 19, 29, 184, 0, 23, 182, 0, 75, 192, 0, 24, 182, 0, 33, 130, 96, 60]
abbrev dktX0_sum_2 : List UInt8 := dkwX0_sum_2 ++ dktX0_sum_3
def dkwX0_sum_1 : List UInt8 := [185, 0, 95, 1, 0, 153, 0, 44, 44, 185, 0, 100, 1, 0, 192, 0, 24, 182, 0, 33, 62, 27, 29]
abbrev dktX0_sum_1 : List UInt8 := dkwX0_sum_1 ++ dktX0_sum_2
def dkwX0_sum_0 : List UInt8 := [42, 180, 0, 19, 182, 0, 88, 153, 0, 5, 3, 172, 3, 60, 42, 180, 0, 19, 182, 0, 91, 77, 44]
abbrev dktX0_sum_0 : List UInt8 := dkwX0_sum_0 ++ dktX0_sum_1
theorem dksX0_sum_0 : cX0_sum.data.toList.drop 0 = dktX0_sum_0 := by decide +kernel
theorem dksX0_sum_1 : cX0_sum.data.toList.drop 23 = dktX0_sum_1 := dk_seg dksX0_sum_0 23 rfl rfl
theorem dksX0_sum_2 : cX0_sum.data.toList.drop 46 = dktX0_sum_2 := dk_seg dksX0_sum_1 23 rfl rfl
theorem dksX0_sum_3 : cX0_sum.data.toList.drop 69 = dktX0_sum_3 := dk_seg dksX0_sum_2 23 rfl rfl
theorem dX0_sum_0 : decode cX0_sum 0 = .ok (.aload_n 0, 1) := dk_42 (dk_at dksX0_sum_0 0 rfl rfl)
theorem dX0_sum_1 : decode cX0_sum 1 = .ok (.getfield 19, 3) := dk_180 0 19 (dk_at dksX0_sum_0 1 rfl rfl)
theorem dX0_sum_4 : decode cX0_sum 4 = .ok (.invokevirtual 88, 3) := dk_182 0 88 (dk_at dksX0_sum_0 4 rfl rfl)
theorem dX0_sum_7 : decode cX0_sum 7 = .ok (.ifCond .eq 5, 3) := dk_153 0 5 (dk_at dksX0_sum_0 7 rfl rfl)
theorem dX0_sum_10 : decode cX0_sum 10 = .ok (.iconst 0, 1) := dk_3 (dk_at dksX0_sum_0 10 rfl rfl)
theorem dX0_sum_11 : decode cX0_sum 11 = .ok (.ireturn, 1) := dk_172 (dk_at dksX0_sum_0 11 rfl rfl)
theorem dX0_sum_12 : decode cX0_sum 12 = .ok (.iconst 0, 1) := dk_3 (dk_at dksX0_sum_0 12 rfl rfl)
theorem dX0_sum_13 : decode cX0_sum 13 = .ok (.istore_n 1, 1) := dk_60 (dk_at dksX0_sum_0 13 rfl rfl)
theorem dX0_sum_14 : decode cX0_sum 14 = .ok (.aload_n 0, 1) := dk_42 (dk_at dksX0_sum_0 14 rfl rfl)
theorem dX0_sum_15 : decode cX0_sum 15 = .ok (.getfield 19, 3) := dk_180 0 19 (dk_at dksX0_sum_0 15 rfl rfl)
theorem dX0_sum_18 : decode cX0_sum 18 = .ok (.invokevirtual 91, 3) := dk_182 0 91 (dk_at dksX0_sum_0 18 rfl rfl)
theorem dX0_sum_21 : decode cX0_sum 21 = .ok (.astore_n 2, 1) := dk_77 (dk_at dksX0_sum_0 21 rfl rfl)
theorem dX0_sum_22 : decode cX0_sum 22 = .ok (.aload_n 2, 1) := dk_44 (dk_at dksX0_sum_0 22 rfl rfl)
theorem dX0_sum_23 : decode cX0_sum 23 = .ok (.invokeinterface 95 1, 5) := by decide +kernel
theorem dX0_sum_28 : decode cX0_sum 28 = .ok (.ifCond .eq 44, 3) := dk_153 0 44 (dk_at dksX0_sum_1 5 rfl rfl)
theorem dX0_sum_31 : decode cX0_sum 31 = .ok (.aload_n 2, 1) := dk_44 (dk_at dksX0_sum_1 8 rfl rfl)
theorem dX0_sum_32 : decode cX0_sum 32 = .ok (.invokeinterface 100 1, 5) := by decide +kernel
theorem dX0_sum_37 : decode cX0_sum 37 = .ok (.checkcast 24, 3) := dk_192 0 24 (dk_at dksX0_sum_1 14 rfl rfl)
theorem dX0_sum_40 : decode cX0_sum 40 = .ok (.invokevirtual 33, 3) := dk_182 0 33 (dk_at dksX0_sum_1 17 rfl rfl)
theorem dX0_sum_43 : decode cX0_sum 43 = .ok (.istore_n 3, 1) := dk_62 (dk_at dksX0_sum_1 20 rfl rfl)
theorem dX0_sum_44 : decode cX0_sum 44 = .ok (.iload_n 1, 1) := dk_27 (dk_at dksX0_sum_1 21 rfl rfl)
theorem dX0_sum_45 : decode cX0_sum 45 = .ok (.iload_n 3, 1) := dk_29 (dk_at dksX0_sum_1 22 rfl rfl)
theorem dX0_sum_46 : decode cX0_sum 46 = .ok (.bipush 31, 2) := dk_16 31 (dk_at dksX0_sum_2 0 rfl rfl)
theorem dX0_sum_48 : decode cX0_sum 48 = .ok (.imul, 1) := dk_104 (dk_at dksX0_sum_2 2 rfl rfl)
theorem dX0_sum_49 : decode cX0_sum 49 = .ok (.aload_n 0, 1) := dk_42 (dk_at dksX0_sum_2 3 rfl rfl)
theorem dX0_sum_50 : decode cX0_sum 50 = .ok (.getfield 19, 3) := dk_180 0 19 (dk_at dksX0_sum_2 4 rfl rfl)
theorem dX0_sum_53 : decode cX0_sum 53 = .ok (.iload_n 3, 1) := dk_29 (dk_at dksX0_sum_2 7 rfl rfl)
theorem dX0_sum_54 : decode cX0_sum 54 = .ok (.invokestatic 23, 3) := dk_184 0 23 (dk_at dksX0_sum_2 8 rfl rfl)
theorem dX0_sum_57 : decode cX0_sum 57 = .ok (.invokevirtual 75, 3) := dk_182 0 75 (dk_at dksX0_sum_2 11 rfl rfl)
theorem dX0_sum_60 : decode cX0_sum 60 = .ok (.checkcast 24, 3) := dk_192 0 24 (dk_at dksX0_sum_2 14 rfl rfl)
theorem dX0_sum_63 : decode cX0_sum 63 = .ok (.invokevirtual 33, 3) := dk_182 0 33 (dk_at dksX0_sum_2 17 rfl rfl)
theorem dX0_sum_66 : decode cX0_sum 66 = .ok (.ixor, 1) := dk_130 (dk_at dksX0_sum_2 20 rfl rfl)
theorem dX0_sum_67 : decode cX0_sum 67 = .ok (.iadd, 1) := dk_96 (dk_at dksX0_sum_2 21 rfl rfl)
theorem dX0_sum_68 : decode cX0_sum 68 = .ok (.istore_n 1, 1) := dk_60 (dk_at dksX0_sum_2 22 rfl rfl)
theorem dX0_sum_69 : decode cX0_sum 69 = .ok (.goto (-47), 3) := dk_167 255 209 (dk_at dksX0_sum_3 0 rfl rfl)
theorem dX0_sum_72 : decode cX0_sum 72 = .ok (.iload_n 1, 1) := dk_27 (dk_at dksX0_sum_3 3 rfl rfl)
theorem dX0_sum_73 : decode cX0_sum 73 = .ok (.ireturn, 1) := dk_172 (dk_at dksX0_sum_3 4 rfl rfl)
theorem q6 : (Jvm.Cond.initialized "LegacyDrill") ∈ lw_all := lw_g (lw_at lw_m1 1 rfl) rfl
theorem q26 : (Jvm.Cond.instantiable "LegacyDrill" (2 : Nat)) ∈ lw_all := lw_g (lw_at lw_m1 21 rfl) rfl
theorem q28 : (Jvm.Cond.instanceMethod ({ cls := "LegacyDrill", name := "<init>", desc := "()V" } : Jvm.MethodName)) ∈ lw_all := lw_g (lw_at lw_m1 23 rfl) rfl
theorem q29 : (Jvm.Cond.code ({ cls := "LegacyDrill", name := "<init>", desc := "()V" } : Jvm.MethodName) prog_1_method_1_code (1 : Nat) (Option.none : Option Jvm.ClassFile.FieldType)) ∈ lw_all := lw_g (lw_at lw_m1 24 rfl) rfl
theorem q30 : (Jvm.Cond.methodLink "LegacyDrill" (1 : Nat) ({ cls := "java/lang/Object", name := "<init>", desc := "()V" } : Jvm.MethodName)) ∈ lw_all := lw_g (lw_at lw_m1 25 rfl) rfl
theorem q33 : (Jvm.Cond.classLink "LegacyDrill" (7 : Nat) "java/util/Stack") ∈ lw_all := lw_g (lw_at lw_m1 28 rfl) rfl
theorem q35 : (Jvm.Cond.methodLink "LegacyDrill" (9 : Nat) ({ cls := "java/util/Stack", name := "<init>", desc := "()V" } : Jvm.MethodName)) ∈ lw_all := lw_g (lw_at lw_m1 30 rfl) rfl
theorem q71 : (Jvm.Cond.classLink "LegacyDrill" (16 : Nat) "java/util/Hashtable") ∈ lw_all := lw_g (lw_at lw_m1 66 rfl) rfl
theorem q73 : (Jvm.Cond.methodLink "LegacyDrill" (18 : Nat) ({ cls := "java/util/Hashtable", name := "<init>", desc := "()V" } : Jvm.MethodName)) ∈ lw_all := lw_g (lw_at lw_m1 68 rfl) rfl
theorem q122 : (Jvm.Cond.fieldLink "LegacyDrill" (10 : Nat) "LegacyDrill" "pile" "Ljava/util/Stack;") ∈ lw_all := lw_g (lw_at lw_m1 117 rfl) rfl
theorem q123 : (Jvm.Cond.fieldLink "LegacyDrill" (19 : Nat) "LegacyDrill" "table" "Ljava/util/Hashtable;") ∈ lw_all := lw_g (lw_at lw_m1 118 rfl) rfl
theorem q124 : (Jvm.Cond.laysFinal "LegacyDrill" "LegacyDrill" "pile" "Ljava/util/Stack;") ∈ lw_all := lw_g (lw_at lw_m1 119 rfl) rfl
theorem q125 : (Jvm.Cond.soleField "LegacyDrill" "pile") ∈ lw_all := lw_g (lw_at lw_m1 120 rfl) rfl
theorem q126 : (Jvm.Cond.laysFinal "LegacyDrill" "LegacyDrill" "table" "Ljava/util/Hashtable;") ∈ lw_all := lw_g (lw_at lw_m1 121 rfl) rfl
theorem q127 : (Jvm.Cond.soleField "LegacyDrill" "table") ∈ lw_all := lw_g (lw_at lw_m1 122 rfl) rfl
theorem q128 : (Jvm.Cond.superclass "LegacyDrill" "java/lang/Object") ∈ lw_all := lw_g (lw_at lw_m1 123 rfl) rfl
theorem q130 : (Jvm.Cond.instanceMethod ({ cls := "LegacyDrill", name := "push", desc := "(I)I" } : Jvm.MethodName)) ∈ lw_all := lw_g (lw_at lw_m1 125 rfl) rfl
theorem q131 : (Jvm.Cond.selects "LegacyDrill" ({ cls := "LegacyDrill", name := "push", desc := "(I)I" } : Jvm.MethodName) ({ cls := "LegacyDrill", name := "push", desc := "(I)I" } : Jvm.MethodName)) ∈ lw_all := lw_g (lw_at lw_m1 126 rfl) rfl
theorem q132 : (Jvm.Cond.code ({ cls := "LegacyDrill", name := "push", desc := "(I)I" } : Jvm.MethodName) prog_1_method_2_code (2 : Nat) (Option.some Jvm.ClassFile.FieldType.int)) ∈ lw_all := lw_g (lw_at lw_m1 127 rfl) rfl
theorem q133 : (Jvm.Cond.methodLink "LegacyDrill" (23 : Nat) ({ cls := "java/lang/Integer", name := "valueOf", desc := "(I)Ljava/lang/Integer;" } : Jvm.MethodName)) ∈ lw_all := lw_g (lw_at lw_m1 128 rfl) rfl
theorem q153 : (Jvm.Cond.methodLink "LegacyDrill" (29 : Nat) ({ cls := "java/util/Stack", name := "push", desc := "(Ljava/lang/Object;)Ljava/lang/Object;" } : Jvm.MethodName)) ∈ lw_all := lw_g (lw_at lw_m1 148 rfl) rfl
theorem q192 : (Jvm.Cond.selects "LegacyDrill" ({ cls := "java/lang/Object", name := "getClass", desc := "()Ljava/lang/Class;" } : Jvm.MethodName) ({ cls := "java/lang/Object", name := "getClass", desc := "()Ljava/lang/Class;" } : Jvm.MethodName)) ∈ lw_all := lw_g (lw_at lw_m1 187 rfl) rfl
theorem q211 : (Jvm.Cond.classLink "LegacyDrill" (24 : Nat) "java/lang/Integer") ∈ lw_all := lw_g (lw_at lw_m1 206 rfl) rfl
theorem q212 : (Jvm.Cond.methodLink "LegacyDrill" (33 : Nat) ({ cls := "java/lang/Integer", name := "intValue", desc := "()I" } : Jvm.MethodName)) ∈ lw_all := lw_g (lw_at lw_m1 207 rfl) rfl
theorem q217 : (Jvm.Cond.instanceMethod ({ cls := "LegacyDrill", name := "pop", desc := "()I" } : Jvm.MethodName)) ∈ lw_all := lw_g (lw_at lw_m1 212 rfl) rfl
theorem q218 : (Jvm.Cond.selects "LegacyDrill" ({ cls := "LegacyDrill", name := "pop", desc := "()I" } : Jvm.MethodName) ({ cls := "LegacyDrill", name := "pop", desc := "()I" } : Jvm.MethodName)) ∈ lw_all := lw_g (lw_at lw_m1 213 rfl) rfl
theorem q219 : (Jvm.Cond.code ({ cls := "LegacyDrill", name := "pop", desc := "()I" } : Jvm.MethodName) prog_1_method_3_code (1 : Nat) (Option.some Jvm.ClassFile.FieldType.int)) ∈ lw_all := lw_g (lw_at lw_m1 214 rfl) rfl
theorem q220 : (Jvm.Cond.methodLink "LegacyDrill" (37 : Nat) ({ cls := "java/util/Stack", name := "pop", desc := "()Ljava/lang/Object;" } : Jvm.MethodName)) ∈ lw_all := lw_g (lw_at lw_m1 215 rfl) rfl
theorem q253 : (Jvm.Cond.instanceMethod ({ cls := "LegacyDrill", name := "peek", desc := "()I" } : Jvm.MethodName)) ∈ lw_all := lw_g (lw_at lw_m2 8 rfl) rfl
theorem q254 : (Jvm.Cond.selects "LegacyDrill" ({ cls := "LegacyDrill", name := "peek", desc := "()I" } : Jvm.MethodName) ({ cls := "LegacyDrill", name := "peek", desc := "()I" } : Jvm.MethodName)) ∈ lw_all := lw_g (lw_at lw_m2 9 rfl) rfl
theorem q255 : (Jvm.Cond.code ({ cls := "LegacyDrill", name := "peek", desc := "()I" } : Jvm.MethodName) prog_1_method_4_code (1 : Nat) (Option.some Jvm.ClassFile.FieldType.int)) ∈ lw_all := lw_g (lw_at lw_m2 10 rfl) rfl
theorem q256 : (Jvm.Cond.methodLink "LegacyDrill" (41 : Nat) ({ cls := "java/util/Stack", name := "peek", desc := "()Ljava/lang/Object;" } : Jvm.MethodName)) ∈ lw_all := lw_g (lw_at lw_m2 11 rfl) rfl
theorem q258 : (Jvm.Cond.instanceMethod ({ cls := "LegacyDrill", name := "empty", desc := "()Z" } : Jvm.MethodName)) ∈ lw_all := lw_g (lw_at lw_m2 13 rfl) rfl
theorem q259 : (Jvm.Cond.selects "LegacyDrill" ({ cls := "LegacyDrill", name := "empty", desc := "()Z" } : Jvm.MethodName) ({ cls := "LegacyDrill", name := "empty", desc := "()Z" } : Jvm.MethodName)) ∈ lw_all := lw_g (lw_at lw_m2 14 rfl) rfl
theorem q260 : (Jvm.Cond.code ({ cls := "LegacyDrill", name := "empty", desc := "()Z" } : Jvm.MethodName) prog_1_method_5_code (1 : Nat) (Option.some Jvm.ClassFile.FieldType.boolean)) ∈ lw_all := lw_g (lw_at lw_m2 15 rfl) rfl
theorem q261 : (Jvm.Cond.methodLink "LegacyDrill" (44 : Nat) ({ cls := "java/util/Stack", name := "empty", desc := "()Z" } : Jvm.MethodName)) ∈ lw_all := lw_g (lw_at lw_m2 16 rfl) rfl
theorem q266 : (Jvm.Cond.instanceMethod ({ cls := "LegacyDrill", name := "search", desc := "(I)I" } : Jvm.MethodName)) ∈ lw_all := lw_g (lw_at lw_m2 21 rfl) rfl
theorem q267 : (Jvm.Cond.selects "LegacyDrill" ({ cls := "LegacyDrill", name := "search", desc := "(I)I" } : Jvm.MethodName) ({ cls := "LegacyDrill", name := "search", desc := "(I)I" } : Jvm.MethodName)) ∈ lw_all := lw_g (lw_at lw_m2 22 rfl) rfl
theorem q268 : (Jvm.Cond.code ({ cls := "LegacyDrill", name := "search", desc := "(I)I" } : Jvm.MethodName) prog_1_method_6_code (2 : Nat) (Option.some Jvm.ClassFile.FieldType.int)) ∈ lw_all := lw_g (lw_at lw_m2 23 rfl) rfl
theorem q269 : (Jvm.Cond.methodLink "LegacyDrill" (48 : Nat) ({ cls := "java/util/Stack", name := "search", desc := "(Ljava/lang/Object;)I" } : Jvm.MethodName)) ∈ lw_all := lw_g (lw_at lw_m2 24 rfl) rfl
theorem q288 : (Jvm.Cond.selects "LegacyDrill" ({ cls := "java/lang/Object", name := "equals", desc := "(Ljava/lang/Object;)Z" } : Jvm.MethodName) ({ cls := "java/lang/Object", name := "equals", desc := "(Ljava/lang/Object;)Z" } : Jvm.MethodName)) ∈ lw_all := lw_g (lw_at lw_m2 43 rfl) rfl
theorem q295 : (Jvm.Cond.instanceMethod ({ cls := "LegacyDrill", name := "insert", desc := "(II)V" } : Jvm.MethodName)) ∈ lw_all := lw_g (lw_at lw_m2 50 rfl) rfl
theorem q296 : (Jvm.Cond.selects "LegacyDrill" ({ cls := "LegacyDrill", name := "insert", desc := "(II)V" } : Jvm.MethodName) ({ cls := "LegacyDrill", name := "insert", desc := "(II)V" } : Jvm.MethodName)) ∈ lw_all := lw_g (lw_at lw_m2 51 rfl) rfl
theorem q297 : (Jvm.Cond.code ({ cls := "LegacyDrill", name := "insert", desc := "(II)V" } : Jvm.MethodName) prog_1_method_7_code (3 : Nat) (Option.none : Option Jvm.ClassFile.FieldType)) ∈ lw_all := lw_g (lw_at lw_m2 52 rfl) rfl
theorem q298 : (Jvm.Cond.methodLink "LegacyDrill" (52 : Nat) ({ cls := "java/util/Stack", name := "insertElementAt", desc := "(Ljava/lang/Object;I)V" } : Jvm.MethodName)) ∈ lw_all := lw_g (lw_at lw_m2 53 rfl) rfl
theorem q305 : (Jvm.Cond.instanceMethod ({ cls := "LegacyDrill", name := "removeAt", desc := "(I)V" } : Jvm.MethodName)) ∈ lw_all := lw_g (lw_at lw_m2 60 rfl) rfl
theorem q306 : (Jvm.Cond.selects "LegacyDrill" ({ cls := "LegacyDrill", name := "removeAt", desc := "(I)V" } : Jvm.MethodName) ({ cls := "LegacyDrill", name := "removeAt", desc := "(I)V" } : Jvm.MethodName)) ∈ lw_all := lw_g (lw_at lw_m2 61 rfl) rfl
theorem q307 : (Jvm.Cond.code ({ cls := "LegacyDrill", name := "removeAt", desc := "(I)V" } : Jvm.MethodName) prog_1_method_8_code (2 : Nat) (Option.none : Option Jvm.ClassFile.FieldType)) ∈ lw_all := lw_g (lw_at lw_m2 62 rfl) rfl
theorem q308 : (Jvm.Cond.methodLink "LegacyDrill" (56 : Nat) ({ cls := "java/util/Stack", name := "removeElementAt", desc := "(I)V" } : Jvm.MethodName)) ∈ lw_all := lw_g (lw_at lw_m2 63 rfl) rfl
theorem q310 : (Jvm.Cond.instanceMethod ({ cls := "LegacyDrill", name := "remove", desc := "(I)Z" } : Jvm.MethodName)) ∈ lw_all := lw_g (lw_at lw_m2 65 rfl) rfl
theorem q311 : (Jvm.Cond.selects "LegacyDrill" ({ cls := "LegacyDrill", name := "remove", desc := "(I)Z" } : Jvm.MethodName) ({ cls := "LegacyDrill", name := "remove", desc := "(I)Z" } : Jvm.MethodName)) ∈ lw_all := lw_g (lw_at lw_m2 66 rfl) rfl
theorem q312 : (Jvm.Cond.code ({ cls := "LegacyDrill", name := "remove", desc := "(I)Z" } : Jvm.MethodName) prog_1_method_9_code (2 : Nat) (Option.some Jvm.ClassFile.FieldType.boolean)) ∈ lw_all := lw_g (lw_at lw_m2 67 rfl) rfl
theorem q313 : (Jvm.Cond.methodLink "LegacyDrill" (60 : Nat) ({ cls := "java/util/Stack", name := "removeElement", desc := "(Ljava/lang/Object;)Z" } : Jvm.MethodName)) ∈ lw_all := lw_g (lw_at lw_m2 68 rfl) rfl
theorem q331 : (Jvm.Cond.instanceMethod ({ cls := "LegacyDrill", name := "at", desc := "(I)I" } : Jvm.MethodName)) ∈ lw_all := lw_g (lw_at lw_m2 86 rfl) rfl
theorem q332 : (Jvm.Cond.selects "LegacyDrill" ({ cls := "LegacyDrill", name := "at", desc := "(I)I" } : Jvm.MethodName) ({ cls := "LegacyDrill", name := "at", desc := "(I)I" } : Jvm.MethodName)) ∈ lw_all := lw_g (lw_at lw_m2 87 rfl) rfl
theorem q333 : (Jvm.Cond.code ({ cls := "LegacyDrill", name := "at", desc := "(I)I" } : Jvm.MethodName) prog_1_method_10_code (2 : Nat) (Option.some Jvm.ClassFile.FieldType.int)) ∈ lw_all := lw_g (lw_at lw_m2 88 rfl) rfl
theorem q334 : (Jvm.Cond.methodLink "LegacyDrill" (64 : Nat) ({ cls := "java/util/Stack", name := "elementAt", desc := "(I)Ljava/lang/Object;" } : Jvm.MethodName)) ∈ lw_all := lw_g (lw_at lw_m2 89 rfl) rfl
theorem q336 : (Jvm.Cond.instanceMethod ({ cls := "LegacyDrill", name := "size", desc := "()I" } : Jvm.MethodName)) ∈ lw_all := lw_g (lw_at lw_m2 91 rfl) rfl
theorem q337 : (Jvm.Cond.selects "LegacyDrill" ({ cls := "LegacyDrill", name := "size", desc := "()I" } : Jvm.MethodName) ({ cls := "LegacyDrill", name := "size", desc := "()I" } : Jvm.MethodName)) ∈ lw_all := lw_g (lw_at lw_m2 92 rfl) rfl
theorem q338 : (Jvm.Cond.code ({ cls := "LegacyDrill", name := "size", desc := "()I" } : Jvm.MethodName) prog_1_method_11_code (1 : Nat) (Option.some Jvm.ClassFile.FieldType.int)) ∈ lw_all := lw_g (lw_at lw_m2 93 rfl) rfl
theorem q339 : (Jvm.Cond.methodLink "LegacyDrill" (68 : Nat) ({ cls := "java/util/Stack", name := "size", desc := "()I" } : Jvm.MethodName)) ∈ lw_all := lw_g (lw_at lw_m2 94 rfl) rfl
theorem q341 : (Jvm.Cond.instanceMethod ({ cls := "LegacyDrill", name := "put", desc := "(III)I" } : Jvm.MethodName)) ∈ lw_all := lw_g (lw_at lw_m2 96 rfl) rfl
theorem q342 : (Jvm.Cond.selects "LegacyDrill" ({ cls := "LegacyDrill", name := "put", desc := "(III)I" } : Jvm.MethodName) ({ cls := "LegacyDrill", name := "put", desc := "(III)I" } : Jvm.MethodName)) ∈ lw_all := lw_g (lw_at lw_m2 97 rfl) rfl
theorem q343 : (Jvm.Cond.code ({ cls := "LegacyDrill", name := "put", desc := "(III)I" } : Jvm.MethodName) prog_1_method_12_code (5 : Nat) (Option.some Jvm.ClassFile.FieldType.int)) ∈ lw_all := lw_g (lw_at lw_m2 98 rfl) rfl
theorem q344 : (Jvm.Cond.methodLink "LegacyDrill" (71 : Nat) ({ cls := "java/util/Hashtable", name := "put", desc := "(Ljava/lang/Object;Ljava/lang/Object;)Ljava/lang/Object;" } : Jvm.MethodName)) ∈ lw_all := lw_g (lw_at lw_m2 99 rfl) rfl
theorem q352 : (Jvm.Cond.selects "LegacyDrill" ({ cls := "java/lang/Object", name := "hashCode", desc := "()I" } : Jvm.MethodName) ({ cls := "java/lang/Object", name := "hashCode", desc := "()I" } : Jvm.MethodName)) ∈ lw_all := lw_g (lw_at lw_m2 107 rfl) rfl
theorem q397 : (Jvm.Cond.instanceMethod ({ cls := "LegacyDrill", name := "get", desc := "(II)I" } : Jvm.MethodName)) ∈ lw_all := lw_g (lw_at lw_m2 152 rfl) rfl
theorem q398 : (Jvm.Cond.selects "LegacyDrill" ({ cls := "LegacyDrill", name := "get", desc := "(II)I" } : Jvm.MethodName) ({ cls := "LegacyDrill", name := "get", desc := "(II)I" } : Jvm.MethodName)) ∈ lw_all := lw_g (lw_at lw_m2 153 rfl) rfl
theorem q399 : (Jvm.Cond.code ({ cls := "LegacyDrill", name := "get", desc := "(II)I" } : Jvm.MethodName) prog_1_method_13_code (4 : Nat) (Option.some Jvm.ClassFile.FieldType.int)) ∈ lw_all := lw_g (lw_at lw_m2 154 rfl) rfl
theorem q400 : (Jvm.Cond.methodLink "LegacyDrill" (75 : Nat) ({ cls := "java/util/Hashtable", name := "get", desc := "(Ljava/lang/Object;)Ljava/lang/Object;" } : Jvm.MethodName)) ∈ lw_all := lw_g (lw_at lw_m2 155 rfl) rfl
theorem q405 : (Jvm.Cond.instanceMethod ({ cls := "LegacyDrill", name := "take", desc := "(II)I" } : Jvm.MethodName)) ∈ lw_all := lw_g (lw_at lw_m2 160 rfl) rfl
theorem q406 : (Jvm.Cond.selects "LegacyDrill" ({ cls := "LegacyDrill", name := "take", desc := "(II)I" } : Jvm.MethodName) ({ cls := "LegacyDrill", name := "take", desc := "(II)I" } : Jvm.MethodName)) ∈ lw_all := lw_g (lw_at lw_m2 161 rfl) rfl
theorem q407 : (Jvm.Cond.code ({ cls := "LegacyDrill", name := "take", desc := "(II)I" } : Jvm.MethodName) prog_1_method_14_code (4 : Nat) (Option.some Jvm.ClassFile.FieldType.int)) ∈ lw_all := lw_g (lw_at lw_m2 162 rfl) rfl
theorem q408 : (Jvm.Cond.methodLink "LegacyDrill" (78 : Nat) ({ cls := "java/util/Hashtable", name := "remove", desc := "(Ljava/lang/Object;)Ljava/lang/Object;" } : Jvm.MethodName)) ∈ lw_all := lw_g (lw_at lw_m2 163 rfl) rfl
theorem q413 : (Jvm.Cond.instanceMethod ({ cls := "LegacyDrill", name := "holds", desc := "(I)Z" } : Jvm.MethodName)) ∈ lw_all := lw_g (lw_at lw_m2 168 rfl) rfl
theorem q414 : (Jvm.Cond.selects "LegacyDrill" ({ cls := "LegacyDrill", name := "holds", desc := "(I)Z" } : Jvm.MethodName) ({ cls := "LegacyDrill", name := "holds", desc := "(I)Z" } : Jvm.MethodName)) ∈ lw_all := lw_g (lw_at lw_m2 169 rfl) rfl
theorem q415 : (Jvm.Cond.code ({ cls := "LegacyDrill", name := "holds", desc := "(I)Z" } : Jvm.MethodName) prog_1_method_15_code (2 : Nat) (Option.some Jvm.ClassFile.FieldType.boolean)) ∈ lw_all := lw_g (lw_at lw_m2 170 rfl) rfl
theorem q416 : (Jvm.Cond.methodLink "LegacyDrill" (81 : Nat) ({ cls := "java/util/Hashtable", name := "contains", desc := "(Ljava/lang/Object;)Z" } : Jvm.MethodName)) ∈ lw_all := lw_g (lw_at lw_m2 171 rfl) rfl
theorem q421 : (Jvm.Cond.instanceMethod ({ cls := "LegacyDrill", name := "has", desc := "(I)Z" } : Jvm.MethodName)) ∈ lw_all := lw_g (lw_at lw_m2 176 rfl) rfl
theorem q422 : (Jvm.Cond.selects "LegacyDrill" ({ cls := "LegacyDrill", name := "has", desc := "(I)Z" } : Jvm.MethodName) ({ cls := "LegacyDrill", name := "has", desc := "(I)Z" } : Jvm.MethodName)) ∈ lw_all := lw_g (lw_at lw_m2 177 rfl) rfl
theorem q423 : (Jvm.Cond.code ({ cls := "LegacyDrill", name := "has", desc := "(I)Z" } : Jvm.MethodName) prog_1_method_16_code (2 : Nat) (Option.some Jvm.ClassFile.FieldType.boolean)) ∈ lw_all := lw_g (lw_at lw_m2 178 rfl) rfl
theorem q424 : (Jvm.Cond.methodLink "LegacyDrill" (84 : Nat) ({ cls := "java/util/Hashtable", name := "containsKey", desc := "(Ljava/lang/Object;)Z" } : Jvm.MethodName)) ∈ lw_all := lw_g (lw_at lw_m2 179 rfl) rfl
theorem q429 : (Jvm.Cond.instanceMethod ({ cls := "LegacyDrill", name := "tableSize", desc := "()I" } : Jvm.MethodName)) ∈ lw_all := lw_g (lw_at lw_m2 184 rfl) rfl
theorem q430 : (Jvm.Cond.selects "LegacyDrill" ({ cls := "LegacyDrill", name := "tableSize", desc := "()I" } : Jvm.MethodName) ({ cls := "LegacyDrill", name := "tableSize", desc := "()I" } : Jvm.MethodName)) ∈ lw_all := lw_g (lw_at lw_m2 185 rfl) rfl
theorem q431 : (Jvm.Cond.code ({ cls := "LegacyDrill", name := "tableSize", desc := "()I" } : Jvm.MethodName) prog_1_method_17_code (1 : Nat) (Option.some Jvm.ClassFile.FieldType.int)) ∈ lw_all := lw_g (lw_at lw_m2 186 rfl) rfl
theorem q432 : (Jvm.Cond.methodLink "LegacyDrill" (87 : Nat) ({ cls := "java/util/Hashtable", name := "size", desc := "()I" } : Jvm.MethodName)) ∈ lw_all := lw_g (lw_at lw_m2 187 rfl) rfl
theorem q437 : (Jvm.Cond.instanceMethod ({ cls := "LegacyDrill", name := "sum", desc := "()I" } : Jvm.MethodName)) ∈ lw_all := lw_g (lw_at lw_m2 192 rfl) rfl
theorem q438 : (Jvm.Cond.selects "LegacyDrill" ({ cls := "LegacyDrill", name := "sum", desc := "()I" } : Jvm.MethodName) ({ cls := "LegacyDrill", name := "sum", desc := "()I" } : Jvm.MethodName)) ∈ lw_all := lw_g (lw_at lw_m2 193 rfl) rfl
theorem q439 : (Jvm.Cond.code ({ cls := "LegacyDrill", name := "sum", desc := "()I" } : Jvm.MethodName) prog_1_method_18_code (4 : Nat) (Option.some Jvm.ClassFile.FieldType.int)) ∈ lw_all := lw_g (lw_at lw_m2 194 rfl) rfl
theorem q440 : (Jvm.Cond.methodLink "LegacyDrill" (88 : Nat) ({ cls := "java/util/Hashtable", name := "isEmpty", desc := "()Z" } : Jvm.MethodName)) ∈ lw_all := lw_g (lw_at lw_m2 195 rfl) rfl
theorem q444 : (Jvm.Cond.methodLink "LegacyDrill" (91 : Nat) ({ cls := "java/util/Hashtable", name := "keys", desc := "()Ljava/util/Enumeration;" } : Jvm.MethodName)) ∈ lw_all := lw_g (lw_at lw_m2 199 rfl) rfl
theorem q488 : (Jvm.Cond.interfaceEntry "LegacyDrill" (95 : Nat)) ∈ lw_tbl := lw_at lw_m3 3 rfl
theorem q489 : (Jvm.Cond.methodLink "LegacyDrill" (95 : Nat) ({ cls := "java/util/Enumeration", name := "hasMoreElements", desc := "()Z" } : Jvm.MethodName)) ∈ lw_all := lw_g (lw_at lw_m3 4 rfl) rfl
theorem q504 : (Jvm.Cond.interfaceEntry "LegacyDrill" (100 : Nat)) ∈ lw_tbl := lw_at lw_m3 19 rfl
theorem q505 : (Jvm.Cond.methodLink "LegacyDrill" (100 : Nat) ({ cls := "java/util/Enumeration", name := "nextElement", desc := "()Ljava/lang/Object;" } : Jvm.MethodName)) ∈ lw_all := lw_g (lw_at lw_m3 20 rfl) rfl
theorem q527 : (Jvm.Cond.castable "LegacyDrill" "java/lang/Object") ∈ lw_tbl := lw_at lw_m3 42 rfl
theorem in_X0 : ∀ w ∈ wsX00, w ∈ lw_all := lw_in wsX00 [124, 126] (by decide +kernel) (by decide +kernel)
/-! the law's own entry -/
set_option maxRecDepth 100000
abbrev cL_law : ByteArray := code
def dkwL_law_34 : List UInt8 := [43, 182, 0, 67, 21, 15, 159, 0, 5, 3, 172, 132, 7, 3, 167, 252, 168, 4, 172]
abbrev dktL_law_34 : List UInt8 := dkwL_law_34 ++ []
def dkwL_law_33 : List UInt8 := [21, 15, 45, 21, 16, 46, 16, 31, 104, 25, 4, 21, 16, 46, 130, 96, 54, 15, 132, 16, 1, 167, 255, 228]
abbrev dktL_law_33 : List UInt8 := dkwL_law_33 ++ dktL_law_34
def dkwL_law_32 : List UInt8 := [43, 182, 0, 64, 21, 6, 159, 0, 53, 3, 172, 3, 54, 15, 3, 54, 16, 21, 16, 21, 6, 162, 0, 27]
abbrev dktL_law_32 : List UInt8 := dkwL_law_32 ++ dktL_law_33
def dkwL_law_31 : List UInt8 := [167, 0, 4, 3, 128, 54, 15, 132, 16, 1, 167, 255, 226, 43, 21, 11, 182, 0, 61, 21, 15, 160, 0, 12]
abbrev dktL_law_31 : List UInt8 := dkwL_law_31 ++ dktL_law_32
def dkwL_law_30 : List UInt8 := [54, 16, 21, 16, 21, 6, 162, 0, 29, 21, 15, 25, 4, 21, 16, 46, 21, 11, 160, 0, 7, 4]
abbrev dktL_law_30 : List UInt8 := dkwL_law_30 ++ dktL_law_31
def dkwL_law_29 : List UInt8 := [132, 6, 255, 21, 6, 46, 79, 25, 4, 21, 14, 25, 4, 21, 6, 46, 79, 167, 0, 112, 3, 54, 15, 3]
abbrev dktL_law_29 : List UInt8 := dkwL_law_29 ++ dktL_law_30
def dkwL_law_28 : List UInt8 := [25, 4, 21, 14, 46, 167, 0, 5, 21, 13, 159, 0, 5, 3, 172, 21, 14, 155, 0, 136, 45, 21, 14, 45]
abbrev dktL_law_28 : List UInt8 := dkwL_law_28 ++ dktL_law_29
def dkwL_law_27 : List UInt8 := [4, 167, 0, 4, 3, 159, 0, 171, 3, 172, 43, 21, 10, 21, 13, 182, 0, 58, 21, 14, 155, 0, 11]
abbrev dktL_law_27 : List UInt8 := dkwL_law_27 ++ dktL_law_28
def dkwL_law_26 : List UInt8 := [25, 4, 21, 14, 46, 167, 0, 5, 21, 13, 160, 0, 22, 43, 21, 10, 182, 0, 55, 21, 14, 155, 0, 7]
abbrev dktL_law_26 : List UInt8 := dkwL_law_26 ++ dktL_law_27
def dkwL_law_25 : List UInt8 := [79, 25, 4, 21, 14, 21, 11, 79, 167, 0, 216, 43, 21, 10, 21, 13, 182, 0, 51, 21, 14, 155, 0, 11]
abbrev dktL_law_25 : List UInt8 := dkwL_law_25 ++ dktL_law_26
def dkwL_law_24 : List UInt8 := [21, 13, 159, 0, 5, 3, 172, 21, 14, 156, 0, 16, 21, 6, 132, 6, 1, 54, 14, 45, 21, 14, 21, 10]
abbrev dktL_law_24 : List UInt8 := dkwL_law_24 ++ dktL_law_25
def dkwL_law_23 : List UInt8 := [172, 43, 21, 10, 21, 11, 21, 13, 182, 0, 47, 21, 14, 155, 0, 11, 25, 4, 21, 14, 46, 167, 0, 5]
abbrev dktL_law_23 : List UInt8 := dkwL_law_23 ++ dktL_law_24
def dkwL_law_22 : List UInt8 := [21, 5, 160, 0, 21, 21, 5, 158, 1, 33, 43, 21, 12, 182, 0, 44, 44, 21, 12, 46, 159, 1, 20, 3]
abbrev dktL_law_22 : List UInt8 := dkwL_law_22 ++ dktL_law_23
def dkwL_law_21 : List UInt8 := [162, 1, 63, 44, 21, 15, 44, 21, 15, 4, 96, 46, 79, 132, 15, 1, 167, 255, 236, 43, 182, 0, 41]
abbrev dktL_law_21 : List UInt8 := dkwL_law_21 ++ dktL_law_22
def dkwL_law_20 : List UInt8 := [167, 0, 4, 3, 159, 0, 5, 3, 172, 21, 15, 21, 5, 162, 1, 73, 132, 5, 255, 21, 15, 21, 5]
abbrev dktL_law_20 : List UInt8 := dkwL_law_20 ++ dktL_law_21
def dkwL_law_19 : List UInt8 := [159, 0, 9, 132, 15, 1, 167, 255, 237, 43, 21, 11, 182, 0, 37, 21, 15, 21, 5, 162, 0, 7, 4]
abbrev dktL_law_19 : List UInt8 := dkwL_law_19 ++ dktL_law_20
def dkwL_law_18 : List UInt8 := [132, 12, 1, 167, 255, 236, 3, 54, 15, 21, 15, 21, 5, 162, 0, 18, 44, 21, 15, 46, 21, 11]
abbrev dktL_law_18 : List UInt8 := dkwL_law_18 ++ dktL_law_19
def dkwL_law_17 : List UInt8 := [182, 0, 33, 132, 5, 255, 21, 12, 21, 5, 162, 1, 144, 44, 21, 12, 44, 21, 12, 4, 96, 46, 79]
abbrev dktL_law_17 : List UInt8 := dkwL_law_17 ++ dktL_law_18
def dkwL_law_16 : List UInt8 := [132, 15, 255, 167, 255, 236, 44, 21, 12, 21, 11, 79, 167, 1, 165, 21, 5, 158, 1, 160, 43, 21, 12]
abbrev dktL_law_16 : List UInt8 := dkwL_law_16 ++ dktL_law_17
def dkwL_law_15 : List UInt8 := [132, 5, 1, 54, 15, 21, 15, 21, 12, 164, 0, 19, 44, 21, 15, 44, 21, 15, 4, 100, 46, 79]
abbrev dktL_law_15 : List UInt8 := dkwL_law_15 ++ dktL_law_16
def dkwL_law_14 : List UInt8 := [167, 0, 8, 21, 5, 21, 15, 100, 159, 1, 214, 3, 172, 43, 21, 11, 21, 12, 182, 0, 29, 21, 5]
abbrev dktL_law_14 : List UInt8 := dkwL_law_14 ++ dktL_law_15
def dkwL_law_13 : List UInt8 := [21, 11, 159, 0, 9, 132, 15, 255, 167, 255, 239, 43, 21, 11, 182, 0, 26, 21, 15, 156, 0, 7, 2]
abbrev dktL_law_13 : List UInt8 := dkwL_law_13 ++ dktL_law_14
def dkwL_law_12 : List UInt8 := [21, 5, 46, 159, 2, 9, 3, 172, 21, 5, 4, 100, 54, 15, 21, 15, 155, 0, 18, 44, 21, 15, 46]
abbrev dktL_law_12 : List UInt8 := dkwL_law_12 ++ dktL_law_13
def dkwL_law_11 : List UInt8 := [158, 2, 36, 43, 182, 0, 19, 44, 21, 5, 4, 100, 46, 160, 0, 17, 43, 182, 0, 23, 44, 132, 5, 255]
abbrev dktL_law_11 : List UInt8 := dkwL_law_11 ++ dktL_law_12
def dkwL_law_10 : List UInt8 := [167, 2, 60, 43, 182, 0, 15, 21, 5, 154, 0, 7, 4, 167, 0, 4, 3, 159, 0, 5, 3, 172, 21, 5]
abbrev dktL_law_10 : List UInt8 := dkwL_law_10 ++ dktL_law_11
def dkwL_law_9 : List UInt8 := [43, 21, 11, 182, 0, 11, 21, 11, 159, 0, 5, 3, 172, 44, 21, 5, 132, 5, 1, 21, 11, 79]
abbrev dktL_law_9 : List UInt8 := dkwL_law_9 ++ dktL_law_10
def dkwL_law_8 : List UInt8 := [170, 0, 0, 0, 0, 0, 2, 154, 0, 0, 0, 0, 0, 0, 0, 25, 0, 0, 0, 120, 0, 0, 0, 120, 0, 0, 0, 120, 0, 0, 0, 120, 0, 0, 0, 120, 0, 0, 0, 145, 0, 0, 0, 145, 0, 0, 0, 198, 0, 0, 0, 198, 0, 0, 0, 249, 0, 0, 1, 40, 0, 0, 1, 77, 0, 0, 1, 158, 0, 0, 1, 187, 0, 0, 1, 187, 0, 0, 1, 187, 0, 0, 1, 187, 0, 0, 1, 187, 0, 0, 1, 187, 0, 0, 1, 245, 0, 0, 1, 245, 0, 0, 1, 245, 0, 0, 2, 36, 0, 0, 2, 36, 0, 0, 2, 93, 0, 0, 2, 93]
abbrev dktL_law_8 : List UInt8 := dkwL_law_8 ++ dktL_law_9
def dkwL_law_7 : List UInt8 := [167, 255, 239, 42, 21, 7, 46, 16, 31, 126]
abbrev dktL_law_7 : List UInt8 := dkwL_law_7 ++ dktL_law_8
def dkwL_law_6 : List UInt8 := [21, 6, 4, 100, 54, 14, 21, 14, 155, 0, 18, 45, 21, 14, 46, 21, 10, 159, 0, 9, 132, 14, 255]
abbrev dktL_law_6 : List UInt8 := dkwL_law_6 ++ dktL_law_7
def dkwL_law_5 : List UInt8 := [154, 0, 7, 3, 167, 0, 11, 21, 8, 18, 10, 126, 21, 5, 112, 54, 12, 21, 9, 2, 130, 54, 13]
abbrev dktL_law_5 : List UInt8 := dkwL_law_5 ++ dktL_law_6
def dkwL_law_4 : List UInt8 := [46, 17, 4, 0, 126, 153, 0, 8, 21, 9, 167, 0, 8, 21, 9, 16, 7, 126, 54, 11, 21, 5]
abbrev dktL_law_4 : List UInt8 := dkwL_law_4 ++ dktL_law_5
def dkwL_law_3 : List UInt8 := [167, 0, 19, 21, 8, 16, 31, 126, 42, 21, 7, 46, 16, 6, 122, 16, 15, 126, 120, 54, 10, 42, 21, 7]
abbrev dktL_law_3 : List UInt8 := dkwL_law_3 ++ dktL_law_4
def dkwL_law_2 : List UInt8 := [54, 8, 42, 21, 7, 5, 96, 46, 54, 9, 42, 21, 7, 46, 16, 32, 126, 153, 0, 8, 21, 8]
abbrev dktL_law_2 : List UInt8 := dkwL_law_2 ++ dktL_law_3
def dkwL_law_1 : List UInt8 := [3, 54, 5, 3, 54, 6, 3, 54, 7, 21, 7, 42, 190, 6, 100, 163, 3, 85, 42, 21, 7, 4, 96, 46]
abbrev dktL_law_1 : List UInt8 := dkwL_law_1 ++ dktL_law_2
def dkwL_law_0 : List UInt8 := [187, 0, 7, 89, 183, 0, 9, 76, 42, 190, 188, 10, 77, 42, 190, 188, 10, 78, 42, 190, 188, 10, 58, 4]
abbrev dktL_law_0 : List UInt8 := dkwL_law_0 ++ dktL_law_1
theorem dksL_law_0 : cL_law.data.toList.drop 0 = dktL_law_0 := by decide +kernel
theorem dksL_law_1 : cL_law.data.toList.drop 24 = dktL_law_1 := dk_seg dksL_law_0 24 rfl rfl
theorem dksL_law_2 : cL_law.data.toList.drop 48 = dktL_law_2 := dk_seg dksL_law_1 24 rfl rfl
theorem dksL_law_3 : cL_law.data.toList.drop 70 = dktL_law_3 := dk_seg dksL_law_2 22 rfl rfl
theorem dksL_law_4 : cL_law.data.toList.drop 94 = dktL_law_4 := dk_seg dksL_law_3 24 rfl rfl
theorem dksL_law_5 : cL_law.data.toList.drop 116 = dktL_law_5 := dk_seg dksL_law_4 22 rfl rfl
theorem dksL_law_6 : cL_law.data.toList.drop 139 = dktL_law_6 := dk_seg dksL_law_5 23 rfl rfl
theorem dksL_law_7 : cL_law.data.toList.drop 162 = dktL_law_7 := dk_seg dksL_law_6 23 rfl rfl
theorem dksL_law_8 : cL_law.data.toList.drop 172 = dktL_law_8 := dk_seg dksL_law_7 10 rfl rfl
theorem dksL_law_9 : cL_law.data.toList.drop 292 = dktL_law_9 := dk_seg dksL_law_8 120 rfl rfl
theorem dksL_law_10 : cL_law.data.toList.drop 314 = dktL_law_10 := dk_seg dksL_law_9 22 rfl rfl
theorem dksL_law_11 : cL_law.data.toList.drop 338 = dktL_law_11 := dk_seg dksL_law_10 24 rfl rfl
theorem dksL_law_12 : cL_law.data.toList.drop 362 = dktL_law_12 := dk_seg dksL_law_11 24 rfl rfl
theorem dksL_law_13 : cL_law.data.toList.drop 385 = dktL_law_13 := dk_seg dksL_law_12 23 rfl rfl
theorem dksL_law_14 : cL_law.data.toList.drop 408 = dktL_law_14 := dk_seg dksL_law_13 23 rfl rfl
theorem dksL_law_15 : cL_law.data.toList.drop 431 = dktL_law_15 := dk_seg dksL_law_14 23 rfl rfl
theorem dksL_law_16 : cL_law.data.toList.drop 453 = dktL_law_16 := dk_seg dksL_law_15 22 rfl rfl
theorem dksL_law_17 : cL_law.data.toList.drop 476 = dktL_law_17 := dk_seg dksL_law_16 23 rfl rfl
theorem dksL_law_18 : cL_law.data.toList.drop 499 = dktL_law_18 := dk_seg dksL_law_17 23 rfl rfl
theorem dksL_law_19 : cL_law.data.toList.drop 521 = dktL_law_19 := dk_seg dksL_law_18 22 rfl rfl
theorem dksL_law_20 : cL_law.data.toList.drop 544 = dktL_law_20 := dk_seg dksL_law_19 23 rfl rfl
theorem dksL_law_21 : cL_law.data.toList.drop 567 = dktL_law_21 := dk_seg dksL_law_20 23 rfl rfl
theorem dksL_law_22 : cL_law.data.toList.drop 590 = dktL_law_22 := dk_seg dksL_law_21 23 rfl rfl
theorem dksL_law_23 : cL_law.data.toList.drop 614 = dktL_law_23 := dk_seg dksL_law_22 24 rfl rfl
theorem dksL_law_24 : cL_law.data.toList.drop 638 = dktL_law_24 := dk_seg dksL_law_23 24 rfl rfl
theorem dksL_law_25 : cL_law.data.toList.drop 662 = dktL_law_25 := dk_seg dksL_law_24 24 rfl rfl
theorem dksL_law_26 : cL_law.data.toList.drop 686 = dktL_law_26 := dk_seg dksL_law_25 24 rfl rfl
theorem dksL_law_27 : cL_law.data.toList.drop 710 = dktL_law_27 := dk_seg dksL_law_26 24 rfl rfl
theorem dksL_law_28 : cL_law.data.toList.drop 733 = dktL_law_28 := dk_seg dksL_law_27 23 rfl rfl
theorem dksL_law_29 : cL_law.data.toList.drop 757 = dktL_law_29 := dk_seg dksL_law_28 24 rfl rfl
theorem dksL_law_30 : cL_law.data.toList.drop 781 = dktL_law_30 := dk_seg dksL_law_29 24 rfl rfl
theorem dksL_law_31 : cL_law.data.toList.drop 803 = dktL_law_31 := dk_seg dksL_law_30 22 rfl rfl
theorem dksL_law_32 : cL_law.data.toList.drop 827 = dktL_law_32 := dk_seg dksL_law_31 24 rfl rfl
theorem dksL_law_33 : cL_law.data.toList.drop 851 = dktL_law_33 := dk_seg dksL_law_32 24 rfl rfl
theorem dksL_law_34 : cL_law.data.toList.drop 875 = dktL_law_34 := dk_seg dksL_law_33 24 rfl rfl
theorem dL_law_0 : decode cL_law 0 = .ok (.new 7, 3) := dk_187 0 7 (dk_at dksL_law_0 0 rfl rfl)
theorem dL_law_3 : decode cL_law 3 = .ok (.dup, 1) := dk_89 (dk_at dksL_law_0 3 rfl rfl)
theorem dL_law_4 : decode cL_law 4 = .ok (.invokespecial 9, 3) := dk_183 0 9 (dk_at dksL_law_0 4 rfl rfl)
theorem dL_law_7 : decode cL_law 7 = .ok (.astore_n 1, 1) := dk_76 (dk_at dksL_law_0 7 rfl rfl)
theorem dL_law_8 : decode cL_law 8 = .ok (.aload_n 0, 1) := dk_42 (dk_at dksL_law_0 8 rfl rfl)
theorem dL_law_9 : decode cL_law 9 = .ok (.arraylength, 1) := dk_190 (dk_at dksL_law_0 9 rfl rfl)
theorem dL_law_10 : decode cL_law 10 = .ok (.newarray .int, 2) := dk_188_10 (dk_at dksL_law_0 10 rfl rfl)
theorem dL_law_12 : decode cL_law 12 = .ok (.astore_n 2, 1) := dk_77 (dk_at dksL_law_0 12 rfl rfl)
theorem dL_law_13 : decode cL_law 13 = .ok (.aload_n 0, 1) := dk_42 (dk_at dksL_law_0 13 rfl rfl)
theorem dL_law_14 : decode cL_law 14 = .ok (.arraylength, 1) := dk_190 (dk_at dksL_law_0 14 rfl rfl)
theorem dL_law_15 : decode cL_law 15 = .ok (.newarray .int, 2) := dk_188_10 (dk_at dksL_law_0 15 rfl rfl)
theorem dL_law_17 : decode cL_law 17 = .ok (.astore_n 3, 1) := dk_78 (dk_at dksL_law_0 17 rfl rfl)
theorem dL_law_18 : decode cL_law 18 = .ok (.aload_n 0, 1) := dk_42 (dk_at dksL_law_0 18 rfl rfl)
theorem dL_law_19 : decode cL_law 19 = .ok (.arraylength, 1) := dk_190 (dk_at dksL_law_0 19 rfl rfl)
theorem dL_law_20 : decode cL_law 20 = .ok (.newarray .int, 2) := dk_188_10 (dk_at dksL_law_0 20 rfl rfl)
theorem dL_law_22 : decode cL_law 22 = .ok (.astore 4, 2) := dk_58 4 (dk_at dksL_law_0 22 rfl rfl)
theorem dL_law_24 : decode cL_law 24 = .ok (.iconst 0, 1) := dk_3 (dk_at dksL_law_1 0 rfl rfl)
theorem dL_law_25 : decode cL_law 25 = .ok (.istore 5, 2) := dk_54 5 (dk_at dksL_law_1 1 rfl rfl)
theorem dL_law_27 : decode cL_law 27 = .ok (.iconst 0, 1) := dk_3 (dk_at dksL_law_1 3 rfl rfl)
theorem dL_law_28 : decode cL_law 28 = .ok (.istore 6, 2) := dk_54 6 (dk_at dksL_law_1 4 rfl rfl)
theorem dL_law_30 : decode cL_law 30 = .ok (.iconst 0, 1) := dk_3 (dk_at dksL_law_1 6 rfl rfl)
theorem dL_law_31 : decode cL_law 31 = .ok (.istore 7, 2) := dk_54 7 (dk_at dksL_law_1 7 rfl rfl)
theorem dL_law_33 : decode cL_law 33 = .ok (.iload 7, 2) := dk_21 7 (dk_at dksL_law_1 9 rfl rfl)
theorem dL_law_35 : decode cL_law 35 = .ok (.aload_n 0, 1) := dk_42 (dk_at dksL_law_1 11 rfl rfl)
theorem dL_law_36 : decode cL_law 36 = .ok (.arraylength, 1) := dk_190 (dk_at dksL_law_1 12 rfl rfl)
theorem dL_law_37 : decode cL_law 37 = .ok (.iconst 3, 1) := dk_6 (dk_at dksL_law_1 13 rfl rfl)
theorem dL_law_38 : decode cL_law 38 = .ok (.isub, 1) := dk_100 (dk_at dksL_law_1 14 rfl rfl)
theorem dL_law_39 : decode cL_law 39 = .ok (.if_icmp .gt 853, 3) := dk_163 3 85 (dk_at dksL_law_1 15 rfl rfl)
theorem dL_law_42 : decode cL_law 42 = .ok (.aload_n 0, 1) := dk_42 (dk_at dksL_law_1 18 rfl rfl)
theorem dL_law_43 : decode cL_law 43 = .ok (.iload 7, 2) := dk_21 7 (dk_at dksL_law_1 19 rfl rfl)
theorem dL_law_45 : decode cL_law 45 = .ok (.iconst 1, 1) := dk_4 (dk_at dksL_law_1 21 rfl rfl)
theorem dL_law_46 : decode cL_law 46 = .ok (.iadd, 1) := dk_96 (dk_at dksL_law_1 22 rfl rfl)
theorem dL_law_47 : decode cL_law 47 = .ok (.iaload, 1) := dk_46 (dk_at dksL_law_1 23 rfl rfl)
theorem dL_law_48 : decode cL_law 48 = .ok (.istore 8, 2) := dk_54 8 (dk_at dksL_law_2 0 rfl rfl)
theorem dL_law_50 : decode cL_law 50 = .ok (.aload_n 0, 1) := dk_42 (dk_at dksL_law_2 2 rfl rfl)
theorem dL_law_51 : decode cL_law 51 = .ok (.iload 7, 2) := dk_21 7 (dk_at dksL_law_2 3 rfl rfl)
theorem dL_law_53 : decode cL_law 53 = .ok (.iconst 2, 1) := dk_5 (dk_at dksL_law_2 5 rfl rfl)
theorem dL_law_54 : decode cL_law 54 = .ok (.iadd, 1) := dk_96 (dk_at dksL_law_2 6 rfl rfl)
theorem dL_law_55 : decode cL_law 55 = .ok (.iaload, 1) := dk_46 (dk_at dksL_law_2 7 rfl rfl)
theorem dL_law_56 : decode cL_law 56 = .ok (.istore 9, 2) := dk_54 9 (dk_at dksL_law_2 8 rfl rfl)
theorem dL_law_58 : decode cL_law 58 = .ok (.aload_n 0, 1) := dk_42 (dk_at dksL_law_2 10 rfl rfl)
theorem dL_law_59 : decode cL_law 59 = .ok (.iload 7, 2) := dk_21 7 (dk_at dksL_law_2 11 rfl rfl)
theorem dL_law_61 : decode cL_law 61 = .ok (.iaload, 1) := dk_46 (dk_at dksL_law_2 13 rfl rfl)
theorem dL_law_62 : decode cL_law 62 = .ok (.bipush 32, 2) := dk_16 32 (dk_at dksL_law_2 14 rfl rfl)
theorem dL_law_64 : decode cL_law 64 = .ok (.iand, 1) := dk_126 (dk_at dksL_law_2 16 rfl rfl)
theorem dL_law_65 : decode cL_law 65 = .ok (.ifCond .eq 8, 3) := dk_153 0 8 (dk_at dksL_law_2 17 rfl rfl)
theorem dL_law_68 : decode cL_law 68 = .ok (.iload 8, 2) := dk_21 8 (dk_at dksL_law_2 20 rfl rfl)
theorem dL_law_70 : decode cL_law 70 = .ok (.goto 19, 3) := dk_167 0 19 (dk_at dksL_law_3 0 rfl rfl)
theorem dL_law_73 : decode cL_law 73 = .ok (.iload 8, 2) := dk_21 8 (dk_at dksL_law_3 3 rfl rfl)
theorem dL_law_75 : decode cL_law 75 = .ok (.bipush 31, 2) := dk_16 31 (dk_at dksL_law_3 5 rfl rfl)
theorem dL_law_77 : decode cL_law 77 = .ok (.iand, 1) := dk_126 (dk_at dksL_law_3 7 rfl rfl)
theorem dL_law_78 : decode cL_law 78 = .ok (.aload_n 0, 1) := dk_42 (dk_at dksL_law_3 8 rfl rfl)
theorem dL_law_79 : decode cL_law 79 = .ok (.iload 7, 2) := dk_21 7 (dk_at dksL_law_3 9 rfl rfl)
theorem dL_law_81 : decode cL_law 81 = .ok (.iaload, 1) := dk_46 (dk_at dksL_law_3 11 rfl rfl)
theorem dL_law_82 : decode cL_law 82 = .ok (.bipush 6, 2) := dk_16 6 (dk_at dksL_law_3 12 rfl rfl)
theorem dL_law_84 : decode cL_law 84 = .ok (.ishr, 1) := dk_122 (dk_at dksL_law_3 14 rfl rfl)
theorem dL_law_85 : decode cL_law 85 = .ok (.bipush 15, 2) := dk_16 15 (dk_at dksL_law_3 15 rfl rfl)
theorem dL_law_87 : decode cL_law 87 = .ok (.iand, 1) := dk_126 (dk_at dksL_law_3 17 rfl rfl)
theorem dL_law_88 : decode cL_law 88 = .ok (.ishl, 1) := dk_120 (dk_at dksL_law_3 18 rfl rfl)
theorem dL_law_89 : decode cL_law 89 = .ok (.istore 10, 2) := dk_54 10 (dk_at dksL_law_3 19 rfl rfl)
theorem dL_law_91 : decode cL_law 91 = .ok (.aload_n 0, 1) := dk_42 (dk_at dksL_law_3 21 rfl rfl)
theorem dL_law_92 : decode cL_law 92 = .ok (.iload 7, 2) := dk_21 7 (dk_at dksL_law_3 22 rfl rfl)
theorem dL_law_94 : decode cL_law 94 = .ok (.iaload, 1) := dk_46 (dk_at dksL_law_4 0 rfl rfl)
theorem dL_law_95 : decode cL_law 95 = .ok (.sipush 1024, 3) := dk_17 4 0 (dk_at dksL_law_4 1 rfl rfl)
theorem dL_law_98 : decode cL_law 98 = .ok (.iand, 1) := dk_126 (dk_at dksL_law_4 4 rfl rfl)
theorem dL_law_99 : decode cL_law 99 = .ok (.ifCond .eq 8, 3) := dk_153 0 8 (dk_at dksL_law_4 5 rfl rfl)
theorem dL_law_102 : decode cL_law 102 = .ok (.iload 9, 2) := dk_21 9 (dk_at dksL_law_4 8 rfl rfl)
theorem dL_law_104 : decode cL_law 104 = .ok (.goto 8, 3) := dk_167 0 8 (dk_at dksL_law_4 10 rfl rfl)
theorem dL_law_107 : decode cL_law 107 = .ok (.iload 9, 2) := dk_21 9 (dk_at dksL_law_4 13 rfl rfl)
theorem dL_law_109 : decode cL_law 109 = .ok (.bipush 7, 2) := dk_16 7 (dk_at dksL_law_4 15 rfl rfl)
theorem dL_law_111 : decode cL_law 111 = .ok (.iand, 1) := dk_126 (dk_at dksL_law_4 17 rfl rfl)
theorem dL_law_112 : decode cL_law 112 = .ok (.istore 11, 2) := dk_54 11 (dk_at dksL_law_4 18 rfl rfl)
theorem dL_law_114 : decode cL_law 114 = .ok (.iload 5, 2) := dk_21 5 (dk_at dksL_law_4 20 rfl rfl)
theorem dL_law_116 : decode cL_law 116 = .ok (.ifCond .ne 7, 3) := dk_154 0 7 (dk_at dksL_law_5 0 rfl rfl)
theorem dL_law_119 : decode cL_law 119 = .ok (.iconst 0, 1) := dk_3 (dk_at dksL_law_5 3 rfl rfl)
theorem dL_law_120 : decode cL_law 120 = .ok (.goto 11, 3) := dk_167 0 11 (dk_at dksL_law_5 4 rfl rfl)
theorem dL_law_123 : decode cL_law 123 = .ok (.iload 8, 2) := dk_21 8 (dk_at dksL_law_5 7 rfl rfl)
theorem dL_law_125 : decode cL_law 125 = .ok (.ldc 10, 2) := dk_18 10 (dk_at dksL_law_5 9 rfl rfl)
theorem dL_law_127 : decode cL_law 127 = .ok (.iand, 1) := dk_126 (dk_at dksL_law_5 11 rfl rfl)
theorem dL_law_128 : decode cL_law 128 = .ok (.iload 5, 2) := dk_21 5 (dk_at dksL_law_5 12 rfl rfl)
theorem dL_law_130 : decode cL_law 130 = .ok (.irem, 1) := dk_112 (dk_at dksL_law_5 14 rfl rfl)
theorem dL_law_131 : decode cL_law 131 = .ok (.istore 12, 2) := dk_54 12 (dk_at dksL_law_5 15 rfl rfl)
theorem dL_law_133 : decode cL_law 133 = .ok (.iload 9, 2) := dk_21 9 (dk_at dksL_law_5 17 rfl rfl)
theorem dL_law_135 : decode cL_law 135 = .ok (.iconst (-1), 1) := dk_2 (dk_at dksL_law_5 19 rfl rfl)
theorem dL_law_136 : decode cL_law 136 = .ok (.ixor, 1) := dk_130 (dk_at dksL_law_5 20 rfl rfl)
theorem dL_law_137 : decode cL_law 137 = .ok (.istore 13, 2) := dk_54 13 (dk_at dksL_law_5 21 rfl rfl)
theorem dL_law_139 : decode cL_law 139 = .ok (.iload 6, 2) := dk_21 6 (dk_at dksL_law_6 0 rfl rfl)
theorem dL_law_141 : decode cL_law 141 = .ok (.iconst 1, 1) := dk_4 (dk_at dksL_law_6 2 rfl rfl)
theorem dL_law_142 : decode cL_law 142 = .ok (.isub, 1) := dk_100 (dk_at dksL_law_6 3 rfl rfl)
theorem dL_law_143 : decode cL_law 143 = .ok (.istore 14, 2) := dk_54 14 (dk_at dksL_law_6 4 rfl rfl)
theorem dL_law_145 : decode cL_law 145 = .ok (.iload 14, 2) := dk_21 14 (dk_at dksL_law_6 6 rfl rfl)
theorem dL_law_147 : decode cL_law 147 = .ok (.ifCond .lt 18, 3) := dk_155 0 18 (dk_at dksL_law_6 8 rfl rfl)
theorem dL_law_150 : decode cL_law 150 = .ok (.aload_n 3, 1) := dk_45 (dk_at dksL_law_6 11 rfl rfl)
theorem dL_law_151 : decode cL_law 151 = .ok (.iload 14, 2) := dk_21 14 (dk_at dksL_law_6 12 rfl rfl)
theorem dL_law_153 : decode cL_law 153 = .ok (.iaload, 1) := dk_46 (dk_at dksL_law_6 14 rfl rfl)
theorem dL_law_154 : decode cL_law 154 = .ok (.iload 10, 2) := dk_21 10 (dk_at dksL_law_6 15 rfl rfl)
theorem dL_law_156 : decode cL_law 156 = .ok (.if_icmp .eq 9, 3) := dk_159 0 9 (dk_at dksL_law_6 17 rfl rfl)
theorem dL_law_159 : decode cL_law 159 = .ok (.iinc 14 (-1), 3) := dk_132 14 255 (dk_at dksL_law_6 20 rfl rfl)
theorem dL_law_162 : decode cL_law 162 = .ok (.goto (-17), 3) := dk_167 255 239 (dk_at dksL_law_7 0 rfl rfl)
theorem dL_law_165 : decode cL_law 165 = .ok (.aload_n 0, 1) := dk_42 (dk_at dksL_law_7 3 rfl rfl)
theorem dL_law_166 : decode cL_law 166 = .ok (.iload 7, 2) := dk_21 7 (dk_at dksL_law_7 4 rfl rfl)
theorem dL_law_168 : decode cL_law 168 = .ok (.iaload, 1) := dk_46 (dk_at dksL_law_7 6 rfl rfl)
theorem dL_law_169 : decode cL_law 169 = .ok (.bipush 31, 2) := dk_16 31 (dk_at dksL_law_7 7 rfl rfl)
theorem dL_law_171 : decode cL_law 171 = .ok (.iand, 1) := dk_126 (dk_at dksL_law_7 9 rfl rfl)
theorem dL_law_172 : decode cL_law 172 = .ok (.tableswitch 666 0 25 #[120, 120, 120, 120, 120, 145, 145, 198, 198, 249, 296, 333, 414, 443, 443, 443, 443, 443, 443, 501, 501, 501, 548, 548, 605, 605], 120) := by decide +kernel
theorem dL_law_292 : decode cL_law 292 = .ok (.aload_n 1, 1) := dk_43 (dk_at dksL_law_9 0 rfl rfl)
theorem dL_law_293 : decode cL_law 293 = .ok (.iload 11, 2) := dk_21 11 (dk_at dksL_law_9 1 rfl rfl)
theorem dL_law_295 : decode cL_law 295 = .ok (.invokevirtual 11, 3) := dk_182 0 11 (dk_at dksL_law_9 3 rfl rfl)
theorem dL_law_298 : decode cL_law 298 = .ok (.iload 11, 2) := dk_21 11 (dk_at dksL_law_9 6 rfl rfl)
theorem dL_law_300 : decode cL_law 300 = .ok (.if_icmp .eq 5, 3) := dk_159 0 5 (dk_at dksL_law_9 8 rfl rfl)
theorem dL_law_303 : decode cL_law 303 = .ok (.iconst 0, 1) := dk_3 (dk_at dksL_law_9 11 rfl rfl)
theorem dL_law_304 : decode cL_law 304 = .ok (.ireturn, 1) := dk_172 (dk_at dksL_law_9 12 rfl rfl)
theorem dL_law_305 : decode cL_law 305 = .ok (.aload_n 2, 1) := dk_44 (dk_at dksL_law_9 13 rfl rfl)
theorem dL_law_306 : decode cL_law 306 = .ok (.iload 5, 2) := dk_21 5 (dk_at dksL_law_9 14 rfl rfl)
theorem dL_law_308 : decode cL_law 308 = .ok (.iinc 5 1, 3) := dk_132 5 1 (dk_at dksL_law_9 16 rfl rfl)
theorem dL_law_311 : decode cL_law 311 = .ok (.iload 11, 2) := dk_21 11 (dk_at dksL_law_9 19 rfl rfl)
theorem dL_law_313 : decode cL_law 313 = .ok (.iastore, 1) := dk_79 (dk_at dksL_law_9 21 rfl rfl)
theorem dL_law_314 : decode cL_law 314 = .ok (.goto 572, 3) := dk_167 2 60 (dk_at dksL_law_10 0 rfl rfl)
theorem dL_law_317 : decode cL_law 317 = .ok (.aload_n 1, 1) := dk_43 (dk_at dksL_law_10 3 rfl rfl)
theorem dL_law_318 : decode cL_law 318 = .ok (.invokevirtual 15, 3) := dk_182 0 15 (dk_at dksL_law_10 4 rfl rfl)
theorem dL_law_321 : decode cL_law 321 = .ok (.iload 5, 2) := dk_21 5 (dk_at dksL_law_10 7 rfl rfl)
theorem dL_law_323 : decode cL_law 323 = .ok (.ifCond .ne 7, 3) := dk_154 0 7 (dk_at dksL_law_10 9 rfl rfl)
theorem dL_law_326 : decode cL_law 326 = .ok (.iconst 1, 1) := dk_4 (dk_at dksL_law_10 12 rfl rfl)
theorem dL_law_327 : decode cL_law 327 = .ok (.goto 4, 3) := dk_167 0 4 (dk_at dksL_law_10 13 rfl rfl)
theorem dL_law_330 : decode cL_law 330 = .ok (.iconst 0, 1) := dk_3 (dk_at dksL_law_10 16 rfl rfl)
theorem dL_law_331 : decode cL_law 331 = .ok (.if_icmp .eq 5, 3) := dk_159 0 5 (dk_at dksL_law_10 17 rfl rfl)
theorem dL_law_334 : decode cL_law 334 = .ok (.iconst 0, 1) := dk_3 (dk_at dksL_law_10 20 rfl rfl)
theorem dL_law_335 : decode cL_law 335 = .ok (.ireturn, 1) := dk_172 (dk_at dksL_law_10 21 rfl rfl)
theorem dL_law_336 : decode cL_law 336 = .ok (.iload 5, 2) := dk_21 5 (dk_at dksL_law_10 22 rfl rfl)
theorem dL_law_338 : decode cL_law 338 = .ok (.ifCond .le 548, 3) := dk_158 2 36 (dk_at dksL_law_11 0 rfl rfl)
theorem dL_law_341 : decode cL_law 341 = .ok (.aload_n 1, 1) := dk_43 (dk_at dksL_law_11 3 rfl rfl)
theorem dL_law_342 : decode cL_law 342 = .ok (.invokevirtual 19, 3) := dk_182 0 19 (dk_at dksL_law_11 4 rfl rfl)
theorem dL_law_345 : decode cL_law 345 = .ok (.aload_n 2, 1) := dk_44 (dk_at dksL_law_11 7 rfl rfl)
theorem dL_law_346 : decode cL_law 346 = .ok (.iload 5, 2) := dk_21 5 (dk_at dksL_law_11 8 rfl rfl)
theorem dL_law_348 : decode cL_law 348 = .ok (.iconst 1, 1) := dk_4 (dk_at dksL_law_11 10 rfl rfl)
theorem dL_law_349 : decode cL_law 349 = .ok (.isub, 1) := dk_100 (dk_at dksL_law_11 11 rfl rfl)
theorem dL_law_350 : decode cL_law 350 = .ok (.iaload, 1) := dk_46 (dk_at dksL_law_11 12 rfl rfl)
theorem dL_law_351 : decode cL_law 351 = .ok (.if_icmp .ne 17, 3) := dk_160 0 17 (dk_at dksL_law_11 13 rfl rfl)
theorem dL_law_354 : decode cL_law 354 = .ok (.aload_n 1, 1) := dk_43 (dk_at dksL_law_11 16 rfl rfl)
theorem dL_law_355 : decode cL_law 355 = .ok (.invokevirtual 23, 3) := dk_182 0 23 (dk_at dksL_law_11 17 rfl rfl)
theorem dL_law_358 : decode cL_law 358 = .ok (.aload_n 2, 1) := dk_44 (dk_at dksL_law_11 20 rfl rfl)
theorem dL_law_359 : decode cL_law 359 = .ok (.iinc 5 (-1), 3) := dk_132 5 255 (dk_at dksL_law_11 21 rfl rfl)
theorem dL_law_362 : decode cL_law 362 = .ok (.iload 5, 2) := dk_21 5 (dk_at dksL_law_12 0 rfl rfl)
theorem dL_law_364 : decode cL_law 364 = .ok (.iaload, 1) := dk_46 (dk_at dksL_law_12 2 rfl rfl)
theorem dL_law_365 : decode cL_law 365 = .ok (.if_icmp .eq 521, 3) := dk_159 2 9 (dk_at dksL_law_12 3 rfl rfl)
theorem dL_law_368 : decode cL_law 368 = .ok (.iconst 0, 1) := dk_3 (dk_at dksL_law_12 6 rfl rfl)
theorem dL_law_369 : decode cL_law 369 = .ok (.ireturn, 1) := dk_172 (dk_at dksL_law_12 7 rfl rfl)
theorem dL_law_370 : decode cL_law 370 = .ok (.iload 5, 2) := dk_21 5 (dk_at dksL_law_12 8 rfl rfl)
theorem dL_law_372 : decode cL_law 372 = .ok (.iconst 1, 1) := dk_4 (dk_at dksL_law_12 10 rfl rfl)
theorem dL_law_373 : decode cL_law 373 = .ok (.isub, 1) := dk_100 (dk_at dksL_law_12 11 rfl rfl)
theorem dL_law_374 : decode cL_law 374 = .ok (.istore 15, 2) := dk_54 15 (dk_at dksL_law_12 12 rfl rfl)
theorem dL_law_376 : decode cL_law 376 = .ok (.iload 15, 2) := dk_21 15 (dk_at dksL_law_12 14 rfl rfl)
theorem dL_law_378 : decode cL_law 378 = .ok (.ifCond .lt 18, 3) := dk_155 0 18 (dk_at dksL_law_12 16 rfl rfl)
theorem dL_law_381 : decode cL_law 381 = .ok (.aload_n 2, 1) := dk_44 (dk_at dksL_law_12 19 rfl rfl)
theorem dL_law_382 : decode cL_law 382 = .ok (.iload 15, 2) := dk_21 15 (dk_at dksL_law_12 20 rfl rfl)
theorem dL_law_384 : decode cL_law 384 = .ok (.iaload, 1) := dk_46 (dk_at dksL_law_12 22 rfl rfl)
theorem dL_law_385 : decode cL_law 385 = .ok (.iload 11, 2) := dk_21 11 (dk_at dksL_law_13 0 rfl rfl)
theorem dL_law_387 : decode cL_law 387 = .ok (.if_icmp .eq 9, 3) := dk_159 0 9 (dk_at dksL_law_13 2 rfl rfl)
theorem dL_law_390 : decode cL_law 390 = .ok (.iinc 15 (-1), 3) := dk_132 15 255 (dk_at dksL_law_13 5 rfl rfl)
theorem dL_law_393 : decode cL_law 393 = .ok (.goto (-17), 3) := dk_167 255 239 (dk_at dksL_law_13 8 rfl rfl)
theorem dL_law_396 : decode cL_law 396 = .ok (.aload_n 1, 1) := dk_43 (dk_at dksL_law_13 11 rfl rfl)
theorem dL_law_397 : decode cL_law 397 = .ok (.iload 11, 2) := dk_21 11 (dk_at dksL_law_13 12 rfl rfl)
theorem dL_law_399 : decode cL_law 399 = .ok (.invokevirtual 26, 3) := dk_182 0 26 (dk_at dksL_law_13 14 rfl rfl)
theorem dL_law_402 : decode cL_law 402 = .ok (.iload 15, 2) := dk_21 15 (dk_at dksL_law_13 17 rfl rfl)
theorem dL_law_404 : decode cL_law 404 = .ok (.ifCond .ge 7, 3) := dk_156 0 7 (dk_at dksL_law_13 19 rfl rfl)
theorem dL_law_407 : decode cL_law 407 = .ok (.iconst (-1), 1) := dk_2 (dk_at dksL_law_13 22 rfl rfl)
theorem dL_law_408 : decode cL_law 408 = .ok (.goto 8, 3) := dk_167 0 8 (dk_at dksL_law_14 0 rfl rfl)
theorem dL_law_411 : decode cL_law 411 = .ok (.iload 5, 2) := dk_21 5 (dk_at dksL_law_14 3 rfl rfl)
theorem dL_law_413 : decode cL_law 413 = .ok (.iload 15, 2) := dk_21 15 (dk_at dksL_law_14 5 rfl rfl)
theorem dL_law_415 : decode cL_law 415 = .ok (.isub, 1) := dk_100 (dk_at dksL_law_14 7 rfl rfl)
theorem dL_law_416 : decode cL_law 416 = .ok (.if_icmp .eq 470, 3) := dk_159 1 214 (dk_at dksL_law_14 8 rfl rfl)
theorem dL_law_419 : decode cL_law 419 = .ok (.iconst 0, 1) := dk_3 (dk_at dksL_law_14 11 rfl rfl)
theorem dL_law_420 : decode cL_law 420 = .ok (.ireturn, 1) := dk_172 (dk_at dksL_law_14 12 rfl rfl)
theorem dL_law_421 : decode cL_law 421 = .ok (.aload_n 1, 1) := dk_43 (dk_at dksL_law_14 13 rfl rfl)
theorem dL_law_422 : decode cL_law 422 = .ok (.iload 11, 2) := dk_21 11 (dk_at dksL_law_14 14 rfl rfl)
theorem dL_law_424 : decode cL_law 424 = .ok (.iload 12, 2) := dk_21 12 (dk_at dksL_law_14 16 rfl rfl)
theorem dL_law_426 : decode cL_law 426 = .ok (.invokevirtual 29, 3) := dk_182 0 29 (dk_at dksL_law_14 18 rfl rfl)
theorem dL_law_429 : decode cL_law 429 = .ok (.iload 5, 2) := dk_21 5 (dk_at dksL_law_14 21 rfl rfl)
theorem dL_law_431 : decode cL_law 431 = .ok (.iinc 5 1, 3) := dk_132 5 1 (dk_at dksL_law_15 0 rfl rfl)
theorem dL_law_434 : decode cL_law 434 = .ok (.istore 15, 2) := dk_54 15 (dk_at dksL_law_15 3 rfl rfl)
theorem dL_law_436 : decode cL_law 436 = .ok (.iload 15, 2) := dk_21 15 (dk_at dksL_law_15 5 rfl rfl)
theorem dL_law_438 : decode cL_law 438 = .ok (.iload 12, 2) := dk_21 12 (dk_at dksL_law_15 7 rfl rfl)
theorem dL_law_440 : decode cL_law 440 = .ok (.if_icmp .le 19, 3) := dk_164 0 19 (dk_at dksL_law_15 9 rfl rfl)
theorem dL_law_443 : decode cL_law 443 = .ok (.aload_n 2, 1) := dk_44 (dk_at dksL_law_15 12 rfl rfl)
theorem dL_law_444 : decode cL_law 444 = .ok (.iload 15, 2) := dk_21 15 (dk_at dksL_law_15 13 rfl rfl)
theorem dL_law_446 : decode cL_law 446 = .ok (.aload_n 2, 1) := dk_44 (dk_at dksL_law_15 15 rfl rfl)
theorem dL_law_447 : decode cL_law 447 = .ok (.iload 15, 2) := dk_21 15 (dk_at dksL_law_15 16 rfl rfl)
theorem dL_law_449 : decode cL_law 449 = .ok (.iconst 1, 1) := dk_4 (dk_at dksL_law_15 18 rfl rfl)
theorem dL_law_450 : decode cL_law 450 = .ok (.isub, 1) := dk_100 (dk_at dksL_law_15 19 rfl rfl)
theorem dL_law_451 : decode cL_law 451 = .ok (.iaload, 1) := dk_46 (dk_at dksL_law_15 20 rfl rfl)
theorem dL_law_452 : decode cL_law 452 = .ok (.iastore, 1) := dk_79 (dk_at dksL_law_15 21 rfl rfl)
theorem dL_law_453 : decode cL_law 453 = .ok (.iinc 15 (-1), 3) := dk_132 15 255 (dk_at dksL_law_16 0 rfl rfl)
theorem dL_law_456 : decode cL_law 456 = .ok (.goto (-20), 3) := dk_167 255 236 (dk_at dksL_law_16 3 rfl rfl)
theorem dL_law_459 : decode cL_law 459 = .ok (.aload_n 2, 1) := dk_44 (dk_at dksL_law_16 6 rfl rfl)
theorem dL_law_460 : decode cL_law 460 = .ok (.iload 12, 2) := dk_21 12 (dk_at dksL_law_16 7 rfl rfl)
theorem dL_law_462 : decode cL_law 462 = .ok (.iload 11, 2) := dk_21 11 (dk_at dksL_law_16 9 rfl rfl)
theorem dL_law_464 : decode cL_law 464 = .ok (.iastore, 1) := dk_79 (dk_at dksL_law_16 11 rfl rfl)
theorem dL_law_465 : decode cL_law 465 = .ok (.goto 421, 3) := dk_167 1 165 (dk_at dksL_law_16 12 rfl rfl)
theorem dL_law_468 : decode cL_law 468 = .ok (.iload 5, 2) := dk_21 5 (dk_at dksL_law_16 15 rfl rfl)
theorem dL_law_470 : decode cL_law 470 = .ok (.ifCond .le 416, 3) := dk_158 1 160 (dk_at dksL_law_16 17 rfl rfl)
theorem dL_law_473 : decode cL_law 473 = .ok (.aload_n 1, 1) := dk_43 (dk_at dksL_law_16 20 rfl rfl)
theorem dL_law_474 : decode cL_law 474 = .ok (.iload 12, 2) := dk_21 12 (dk_at dksL_law_16 21 rfl rfl)
theorem dL_law_476 : decode cL_law 476 = .ok (.invokevirtual 33, 3) := dk_182 0 33 (dk_at dksL_law_17 0 rfl rfl)
theorem dL_law_479 : decode cL_law 479 = .ok (.iinc 5 (-1), 3) := dk_132 5 255 (dk_at dksL_law_17 3 rfl rfl)
theorem dL_law_482 : decode cL_law 482 = .ok (.iload 12, 2) := dk_21 12 (dk_at dksL_law_17 6 rfl rfl)
theorem dL_law_484 : decode cL_law 484 = .ok (.iload 5, 2) := dk_21 5 (dk_at dksL_law_17 8 rfl rfl)
theorem dL_law_486 : decode cL_law 486 = .ok (.if_icmp .ge 400, 3) := dk_162 1 144 (dk_at dksL_law_17 10 rfl rfl)
theorem dL_law_489 : decode cL_law 489 = .ok (.aload_n 2, 1) := dk_44 (dk_at dksL_law_17 13 rfl rfl)
theorem dL_law_490 : decode cL_law 490 = .ok (.iload 12, 2) := dk_21 12 (dk_at dksL_law_17 14 rfl rfl)
theorem dL_law_492 : decode cL_law 492 = .ok (.aload_n 2, 1) := dk_44 (dk_at dksL_law_17 16 rfl rfl)
theorem dL_law_493 : decode cL_law 493 = .ok (.iload 12, 2) := dk_21 12 (dk_at dksL_law_17 17 rfl rfl)
theorem dL_law_495 : decode cL_law 495 = .ok (.iconst 1, 1) := dk_4 (dk_at dksL_law_17 19 rfl rfl)
theorem dL_law_496 : decode cL_law 496 = .ok (.iadd, 1) := dk_96 (dk_at dksL_law_17 20 rfl rfl)
theorem dL_law_497 : decode cL_law 497 = .ok (.iaload, 1) := dk_46 (dk_at dksL_law_17 21 rfl rfl)
theorem dL_law_498 : decode cL_law 498 = .ok (.iastore, 1) := dk_79 (dk_at dksL_law_17 22 rfl rfl)
theorem dL_law_499 : decode cL_law 499 = .ok (.iinc 12 1, 3) := dk_132 12 1 (dk_at dksL_law_18 0 rfl rfl)
theorem dL_law_502 : decode cL_law 502 = .ok (.goto (-20), 3) := dk_167 255 236 (dk_at dksL_law_18 3 rfl rfl)
theorem dL_law_505 : decode cL_law 505 = .ok (.iconst 0, 1) := dk_3 (dk_at dksL_law_18 6 rfl rfl)
theorem dL_law_506 : decode cL_law 506 = .ok (.istore 15, 2) := dk_54 15 (dk_at dksL_law_18 7 rfl rfl)
theorem dL_law_508 : decode cL_law 508 = .ok (.iload 15, 2) := dk_21 15 (dk_at dksL_law_18 9 rfl rfl)
theorem dL_law_510 : decode cL_law 510 = .ok (.iload 5, 2) := dk_21 5 (dk_at dksL_law_18 11 rfl rfl)
theorem dL_law_512 : decode cL_law 512 = .ok (.if_icmp .ge 18, 3) := dk_162 0 18 (dk_at dksL_law_18 13 rfl rfl)
theorem dL_law_515 : decode cL_law 515 = .ok (.aload_n 2, 1) := dk_44 (dk_at dksL_law_18 16 rfl rfl)
theorem dL_law_516 : decode cL_law 516 = .ok (.iload 15, 2) := dk_21 15 (dk_at dksL_law_18 17 rfl rfl)
theorem dL_law_518 : decode cL_law 518 = .ok (.iaload, 1) := dk_46 (dk_at dksL_law_18 19 rfl rfl)
theorem dL_law_519 : decode cL_law 519 = .ok (.iload 11, 2) := dk_21 11 (dk_at dksL_law_18 20 rfl rfl)
theorem dL_law_521 : decode cL_law 521 = .ok (.if_icmp .eq 9, 3) := dk_159 0 9 (dk_at dksL_law_19 0 rfl rfl)
theorem dL_law_524 : decode cL_law 524 = .ok (.iinc 15 1, 3) := dk_132 15 1 (dk_at dksL_law_19 3 rfl rfl)
theorem dL_law_527 : decode cL_law 527 = .ok (.goto (-19), 3) := dk_167 255 237 (dk_at dksL_law_19 6 rfl rfl)
theorem dL_law_530 : decode cL_law 530 = .ok (.aload_n 1, 1) := dk_43 (dk_at dksL_law_19 9 rfl rfl)
theorem dL_law_531 : decode cL_law 531 = .ok (.iload 11, 2) := dk_21 11 (dk_at dksL_law_19 10 rfl rfl)
theorem dL_law_533 : decode cL_law 533 = .ok (.invokevirtual 37, 3) := dk_182 0 37 (dk_at dksL_law_19 12 rfl rfl)
theorem dL_law_536 : decode cL_law 536 = .ok (.iload 15, 2) := dk_21 15 (dk_at dksL_law_19 15 rfl rfl)
theorem dL_law_538 : decode cL_law 538 = .ok (.iload 5, 2) := dk_21 5 (dk_at dksL_law_19 17 rfl rfl)
theorem dL_law_540 : decode cL_law 540 = .ok (.if_icmp .ge 7, 3) := dk_162 0 7 (dk_at dksL_law_19 19 rfl rfl)
theorem dL_law_543 : decode cL_law 543 = .ok (.iconst 1, 1) := dk_4 (dk_at dksL_law_19 22 rfl rfl)
theorem dL_law_544 : decode cL_law 544 = .ok (.goto 4, 3) := dk_167 0 4 (dk_at dksL_law_20 0 rfl rfl)
theorem dL_law_547 : decode cL_law 547 = .ok (.iconst 0, 1) := dk_3 (dk_at dksL_law_20 3 rfl rfl)
theorem dL_law_548 : decode cL_law 548 = .ok (.if_icmp .eq 5, 3) := dk_159 0 5 (dk_at dksL_law_20 4 rfl rfl)
theorem dL_law_551 : decode cL_law 551 = .ok (.iconst 0, 1) := dk_3 (dk_at dksL_law_20 7 rfl rfl)
theorem dL_law_552 : decode cL_law 552 = .ok (.ireturn, 1) := dk_172 (dk_at dksL_law_20 8 rfl rfl)
theorem dL_law_553 : decode cL_law 553 = .ok (.iload 15, 2) := dk_21 15 (dk_at dksL_law_20 9 rfl rfl)
theorem dL_law_555 : decode cL_law 555 = .ok (.iload 5, 2) := dk_21 5 (dk_at dksL_law_20 11 rfl rfl)
theorem dL_law_557 : decode cL_law 557 = .ok (.if_icmp .ge 329, 3) := dk_162 1 73 (dk_at dksL_law_20 13 rfl rfl)
theorem dL_law_560 : decode cL_law 560 = .ok (.iinc 5 (-1), 3) := dk_132 5 255 (dk_at dksL_law_20 16 rfl rfl)
theorem dL_law_563 : decode cL_law 563 = .ok (.iload 15, 2) := dk_21 15 (dk_at dksL_law_20 19 rfl rfl)
theorem dL_law_565 : decode cL_law 565 = .ok (.iload 5, 2) := dk_21 5 (dk_at dksL_law_20 21 rfl rfl)
theorem dL_law_567 : decode cL_law 567 = .ok (.if_icmp .ge 319, 3) := dk_162 1 63 (dk_at dksL_law_21 0 rfl rfl)
theorem dL_law_570 : decode cL_law 570 = .ok (.aload_n 2, 1) := dk_44 (dk_at dksL_law_21 3 rfl rfl)
theorem dL_law_571 : decode cL_law 571 = .ok (.iload 15, 2) := dk_21 15 (dk_at dksL_law_21 4 rfl rfl)
theorem dL_law_573 : decode cL_law 573 = .ok (.aload_n 2, 1) := dk_44 (dk_at dksL_law_21 6 rfl rfl)
theorem dL_law_574 : decode cL_law 574 = .ok (.iload 15, 2) := dk_21 15 (dk_at dksL_law_21 7 rfl rfl)
theorem dL_law_576 : decode cL_law 576 = .ok (.iconst 1, 1) := dk_4 (dk_at dksL_law_21 9 rfl rfl)
theorem dL_law_577 : decode cL_law 577 = .ok (.iadd, 1) := dk_96 (dk_at dksL_law_21 10 rfl rfl)
theorem dL_law_578 : decode cL_law 578 = .ok (.iaload, 1) := dk_46 (dk_at dksL_law_21 11 rfl rfl)
theorem dL_law_579 : decode cL_law 579 = .ok (.iastore, 1) := dk_79 (dk_at dksL_law_21 12 rfl rfl)
theorem dL_law_580 : decode cL_law 580 = .ok (.iinc 15 1, 3) := dk_132 15 1 (dk_at dksL_law_21 13 rfl rfl)
theorem dL_law_583 : decode cL_law 583 = .ok (.goto (-20), 3) := dk_167 255 236 (dk_at dksL_law_21 16 rfl rfl)
theorem dL_law_586 : decode cL_law 586 = .ok (.aload_n 1, 1) := dk_43 (dk_at dksL_law_21 19 rfl rfl)
theorem dL_law_587 : decode cL_law 587 = .ok (.invokevirtual 41, 3) := dk_182 0 41 (dk_at dksL_law_21 20 rfl rfl)
theorem dL_law_590 : decode cL_law 590 = .ok (.iload 5, 2) := dk_21 5 (dk_at dksL_law_22 0 rfl rfl)
theorem dL_law_592 : decode cL_law 592 = .ok (.if_icmp .ne 21, 3) := dk_160 0 21 (dk_at dksL_law_22 2 rfl rfl)
theorem dL_law_595 : decode cL_law 595 = .ok (.iload 5, 2) := dk_21 5 (dk_at dksL_law_22 5 rfl rfl)
theorem dL_law_597 : decode cL_law 597 = .ok (.ifCond .le 289, 3) := dk_158 1 33 (dk_at dksL_law_22 7 rfl rfl)
theorem dL_law_600 : decode cL_law 600 = .ok (.aload_n 1, 1) := dk_43 (dk_at dksL_law_22 10 rfl rfl)
theorem dL_law_601 : decode cL_law 601 = .ok (.iload 12, 2) := dk_21 12 (dk_at dksL_law_22 11 rfl rfl)
theorem dL_law_603 : decode cL_law 603 = .ok (.invokevirtual 44, 3) := dk_182 0 44 (dk_at dksL_law_22 13 rfl rfl)
theorem dL_law_606 : decode cL_law 606 = .ok (.aload_n 2, 1) := dk_44 (dk_at dksL_law_22 16 rfl rfl)
theorem dL_law_607 : decode cL_law 607 = .ok (.iload 12, 2) := dk_21 12 (dk_at dksL_law_22 17 rfl rfl)
theorem dL_law_609 : decode cL_law 609 = .ok (.iaload, 1) := dk_46 (dk_at dksL_law_22 19 rfl rfl)
theorem dL_law_610 : decode cL_law 610 = .ok (.if_icmp .eq 276, 3) := dk_159 1 20 (dk_at dksL_law_22 20 rfl rfl)
theorem dL_law_613 : decode cL_law 613 = .ok (.iconst 0, 1) := dk_3 (dk_at dksL_law_22 23 rfl rfl)
theorem dL_law_614 : decode cL_law 614 = .ok (.ireturn, 1) := dk_172 (dk_at dksL_law_23 0 rfl rfl)
theorem dL_law_615 : decode cL_law 615 = .ok (.aload_n 1, 1) := dk_43 (dk_at dksL_law_23 1 rfl rfl)
theorem dL_law_616 : decode cL_law 616 = .ok (.iload 10, 2) := dk_21 10 (dk_at dksL_law_23 2 rfl rfl)
theorem dL_law_618 : decode cL_law 618 = .ok (.iload 11, 2) := dk_21 11 (dk_at dksL_law_23 4 rfl rfl)
theorem dL_law_620 : decode cL_law 620 = .ok (.iload 13, 2) := dk_21 13 (dk_at dksL_law_23 6 rfl rfl)
theorem dL_law_622 : decode cL_law 622 = .ok (.invokevirtual 47, 3) := dk_182 0 47 (dk_at dksL_law_23 8 rfl rfl)
theorem dL_law_625 : decode cL_law 625 = .ok (.iload 14, 2) := dk_21 14 (dk_at dksL_law_23 11 rfl rfl)
theorem dL_law_627 : decode cL_law 627 = .ok (.ifCond .lt 11, 3) := dk_155 0 11 (dk_at dksL_law_23 13 rfl rfl)
theorem dL_law_630 : decode cL_law 630 = .ok (.aload 4, 2) := dk_25 4 (dk_at dksL_law_23 16 rfl rfl)
theorem dL_law_632 : decode cL_law 632 = .ok (.iload 14, 2) := dk_21 14 (dk_at dksL_law_23 18 rfl rfl)
theorem dL_law_634 : decode cL_law 634 = .ok (.iaload, 1) := dk_46 (dk_at dksL_law_23 20 rfl rfl)
theorem dL_law_635 : decode cL_law 635 = .ok (.goto 5, 3) := dk_167 0 5 (dk_at dksL_law_23 21 rfl rfl)
theorem dL_law_638 : decode cL_law 638 = .ok (.iload 13, 2) := dk_21 13 (dk_at dksL_law_24 0 rfl rfl)
theorem dL_law_640 : decode cL_law 640 = .ok (.if_icmp .eq 5, 3) := dk_159 0 5 (dk_at dksL_law_24 2 rfl rfl)
theorem dL_law_643 : decode cL_law 643 = .ok (.iconst 0, 1) := dk_3 (dk_at dksL_law_24 5 rfl rfl)
theorem dL_law_644 : decode cL_law 644 = .ok (.ireturn, 1) := dk_172 (dk_at dksL_law_24 6 rfl rfl)
theorem dL_law_645 : decode cL_law 645 = .ok (.iload 14, 2) := dk_21 14 (dk_at dksL_law_24 7 rfl rfl)
theorem dL_law_647 : decode cL_law 647 = .ok (.ifCond .ge 16, 3) := dk_156 0 16 (dk_at dksL_law_24 9 rfl rfl)
theorem dL_law_650 : decode cL_law 650 = .ok (.iload 6, 2) := dk_21 6 (dk_at dksL_law_24 12 rfl rfl)
theorem dL_law_652 : decode cL_law 652 = .ok (.iinc 6 1, 3) := dk_132 6 1 (dk_at dksL_law_24 14 rfl rfl)
theorem dL_law_655 : decode cL_law 655 = .ok (.istore 14, 2) := dk_54 14 (dk_at dksL_law_24 17 rfl rfl)
theorem dL_law_657 : decode cL_law 657 = .ok (.aload_n 3, 1) := dk_45 (dk_at dksL_law_24 19 rfl rfl)
theorem dL_law_658 : decode cL_law 658 = .ok (.iload 14, 2) := dk_21 14 (dk_at dksL_law_24 20 rfl rfl)
theorem dL_law_660 : decode cL_law 660 = .ok (.iload 10, 2) := dk_21 10 (dk_at dksL_law_24 22 rfl rfl)
theorem dL_law_662 : decode cL_law 662 = .ok (.iastore, 1) := dk_79 (dk_at dksL_law_25 0 rfl rfl)
theorem dL_law_663 : decode cL_law 663 = .ok (.aload 4, 2) := dk_25 4 (dk_at dksL_law_25 1 rfl rfl)
theorem dL_law_665 : decode cL_law 665 = .ok (.iload 14, 2) := dk_21 14 (dk_at dksL_law_25 3 rfl rfl)
theorem dL_law_667 : decode cL_law 667 = .ok (.iload 11, 2) := dk_21 11 (dk_at dksL_law_25 5 rfl rfl)
theorem dL_law_669 : decode cL_law 669 = .ok (.iastore, 1) := dk_79 (dk_at dksL_law_25 7 rfl rfl)
theorem dL_law_670 : decode cL_law 670 = .ok (.goto 216, 3) := dk_167 0 216 (dk_at dksL_law_25 8 rfl rfl)
theorem dL_law_673 : decode cL_law 673 = .ok (.aload_n 1, 1) := dk_43 (dk_at dksL_law_25 11 rfl rfl)
theorem dL_law_674 : decode cL_law 674 = .ok (.iload 10, 2) := dk_21 10 (dk_at dksL_law_25 12 rfl rfl)
theorem dL_law_676 : decode cL_law 676 = .ok (.iload 13, 2) := dk_21 13 (dk_at dksL_law_25 14 rfl rfl)
theorem dL_law_678 : decode cL_law 678 = .ok (.invokevirtual 51, 3) := dk_182 0 51 (dk_at dksL_law_25 16 rfl rfl)
theorem dL_law_681 : decode cL_law 681 = .ok (.iload 14, 2) := dk_21 14 (dk_at dksL_law_25 19 rfl rfl)
theorem dL_law_683 : decode cL_law 683 = .ok (.ifCond .lt 11, 3) := dk_155 0 11 (dk_at dksL_law_25 21 rfl rfl)
theorem dL_law_686 : decode cL_law 686 = .ok (.aload 4, 2) := dk_25 4 (dk_at dksL_law_26 0 rfl rfl)
theorem dL_law_688 : decode cL_law 688 = .ok (.iload 14, 2) := dk_21 14 (dk_at dksL_law_26 2 rfl rfl)
theorem dL_law_690 : decode cL_law 690 = .ok (.iaload, 1) := dk_46 (dk_at dksL_law_26 4 rfl rfl)
theorem dL_law_691 : decode cL_law 691 = .ok (.goto 5, 3) := dk_167 0 5 (dk_at dksL_law_26 5 rfl rfl)
theorem dL_law_694 : decode cL_law 694 = .ok (.iload 13, 2) := dk_21 13 (dk_at dksL_law_26 8 rfl rfl)
theorem dL_law_696 : decode cL_law 696 = .ok (.if_icmp .ne 22, 3) := dk_160 0 22 (dk_at dksL_law_26 10 rfl rfl)
theorem dL_law_699 : decode cL_law 699 = .ok (.aload_n 1, 1) := dk_43 (dk_at dksL_law_26 13 rfl rfl)
theorem dL_law_700 : decode cL_law 700 = .ok (.iload 10, 2) := dk_21 10 (dk_at dksL_law_26 14 rfl rfl)
theorem dL_law_702 : decode cL_law 702 = .ok (.invokevirtual 55, 3) := dk_182 0 55 (dk_at dksL_law_26 16 rfl rfl)
theorem dL_law_705 : decode cL_law 705 = .ok (.iload 14, 2) := dk_21 14 (dk_at dksL_law_26 19 rfl rfl)
theorem dL_law_707 : decode cL_law 707 = .ok (.ifCond .lt 7, 3) := dk_155 0 7 (dk_at dksL_law_26 21 rfl rfl)
theorem dL_law_710 : decode cL_law 710 = .ok (.iconst 1, 1) := dk_4 (dk_at dksL_law_27 0 rfl rfl)
theorem dL_law_711 : decode cL_law 711 = .ok (.goto 4, 3) := dk_167 0 4 (dk_at dksL_law_27 1 rfl rfl)
theorem dL_law_714 : decode cL_law 714 = .ok (.iconst 0, 1) := dk_3 (dk_at dksL_law_27 4 rfl rfl)
theorem dL_law_715 : decode cL_law 715 = .ok (.if_icmp .eq 171, 3) := dk_159 0 171 (dk_at dksL_law_27 5 rfl rfl)
theorem dL_law_718 : decode cL_law 718 = .ok (.iconst 0, 1) := dk_3 (dk_at dksL_law_27 8 rfl rfl)
theorem dL_law_719 : decode cL_law 719 = .ok (.ireturn, 1) := dk_172 (dk_at dksL_law_27 9 rfl rfl)
theorem dL_law_720 : decode cL_law 720 = .ok (.aload_n 1, 1) := dk_43 (dk_at dksL_law_27 10 rfl rfl)
theorem dL_law_721 : decode cL_law 721 = .ok (.iload 10, 2) := dk_21 10 (dk_at dksL_law_27 11 rfl rfl)
theorem dL_law_723 : decode cL_law 723 = .ok (.iload 13, 2) := dk_21 13 (dk_at dksL_law_27 13 rfl rfl)
theorem dL_law_725 : decode cL_law 725 = .ok (.invokevirtual 58, 3) := dk_182 0 58 (dk_at dksL_law_27 15 rfl rfl)
theorem dL_law_728 : decode cL_law 728 = .ok (.iload 14, 2) := dk_21 14 (dk_at dksL_law_27 18 rfl rfl)
theorem dL_law_730 : decode cL_law 730 = .ok (.ifCond .lt 11, 3) := dk_155 0 11 (dk_at dksL_law_27 20 rfl rfl)
theorem dL_law_733 : decode cL_law 733 = .ok (.aload 4, 2) := dk_25 4 (dk_at dksL_law_28 0 rfl rfl)
theorem dL_law_735 : decode cL_law 735 = .ok (.iload 14, 2) := dk_21 14 (dk_at dksL_law_28 2 rfl rfl)
theorem dL_law_737 : decode cL_law 737 = .ok (.iaload, 1) := dk_46 (dk_at dksL_law_28 4 rfl rfl)
theorem dL_law_738 : decode cL_law 738 = .ok (.goto 5, 3) := dk_167 0 5 (dk_at dksL_law_28 5 rfl rfl)
theorem dL_law_741 : decode cL_law 741 = .ok (.iload 13, 2) := dk_21 13 (dk_at dksL_law_28 8 rfl rfl)
theorem dL_law_743 : decode cL_law 743 = .ok (.if_icmp .eq 5, 3) := dk_159 0 5 (dk_at dksL_law_28 10 rfl rfl)
theorem dL_law_746 : decode cL_law 746 = .ok (.iconst 0, 1) := dk_3 (dk_at dksL_law_28 13 rfl rfl)
theorem dL_law_747 : decode cL_law 747 = .ok (.ireturn, 1) := dk_172 (dk_at dksL_law_28 14 rfl rfl)
theorem dL_law_748 : decode cL_law 748 = .ok (.iload 14, 2) := dk_21 14 (dk_at dksL_law_28 15 rfl rfl)
theorem dL_law_750 : decode cL_law 750 = .ok (.ifCond .lt 136, 3) := dk_155 0 136 (dk_at dksL_law_28 17 rfl rfl)
theorem dL_law_753 : decode cL_law 753 = .ok (.aload_n 3, 1) := dk_45 (dk_at dksL_law_28 20 rfl rfl)
theorem dL_law_754 : decode cL_law 754 = .ok (.iload 14, 2) := dk_21 14 (dk_at dksL_law_28 21 rfl rfl)
theorem dL_law_756 : decode cL_law 756 = .ok (.aload_n 3, 1) := dk_45 (dk_at dksL_law_28 23 rfl rfl)
theorem dL_law_757 : decode cL_law 757 = .ok (.iinc 6 (-1), 3) := dk_132 6 255 (dk_at dksL_law_29 0 rfl rfl)
theorem dL_law_760 : decode cL_law 760 = .ok (.iload 6, 2) := dk_21 6 (dk_at dksL_law_29 3 rfl rfl)
theorem dL_law_762 : decode cL_law 762 = .ok (.iaload, 1) := dk_46 (dk_at dksL_law_29 5 rfl rfl)
theorem dL_law_763 : decode cL_law 763 = .ok (.iastore, 1) := dk_79 (dk_at dksL_law_29 6 rfl rfl)
theorem dL_law_764 : decode cL_law 764 = .ok (.aload 4, 2) := dk_25 4 (dk_at dksL_law_29 7 rfl rfl)
theorem dL_law_766 : decode cL_law 766 = .ok (.iload 14, 2) := dk_21 14 (dk_at dksL_law_29 9 rfl rfl)
theorem dL_law_768 : decode cL_law 768 = .ok (.aload 4, 2) := dk_25 4 (dk_at dksL_law_29 11 rfl rfl)
theorem dL_law_770 : decode cL_law 770 = .ok (.iload 6, 2) := dk_21 6 (dk_at dksL_law_29 13 rfl rfl)
theorem dL_law_772 : decode cL_law 772 = .ok (.iaload, 1) := dk_46 (dk_at dksL_law_29 15 rfl rfl)
theorem dL_law_773 : decode cL_law 773 = .ok (.iastore, 1) := dk_79 (dk_at dksL_law_29 16 rfl rfl)
theorem dL_law_774 : decode cL_law 774 = .ok (.goto 112, 3) := dk_167 0 112 (dk_at dksL_law_29 17 rfl rfl)
theorem dL_law_777 : decode cL_law 777 = .ok (.iconst 0, 1) := dk_3 (dk_at dksL_law_29 20 rfl rfl)
theorem dL_law_778 : decode cL_law 778 = .ok (.istore 15, 2) := dk_54 15 (dk_at dksL_law_29 21 rfl rfl)
theorem dL_law_780 : decode cL_law 780 = .ok (.iconst 0, 1) := dk_3 (dk_at dksL_law_29 23 rfl rfl)
theorem dL_law_781 : decode cL_law 781 = .ok (.istore 16, 2) := dk_54 16 (dk_at dksL_law_30 0 rfl rfl)
theorem dL_law_783 : decode cL_law 783 = .ok (.iload 16, 2) := dk_21 16 (dk_at dksL_law_30 2 rfl rfl)
theorem dL_law_785 : decode cL_law 785 = .ok (.iload 6, 2) := dk_21 6 (dk_at dksL_law_30 4 rfl rfl)
theorem dL_law_787 : decode cL_law 787 = .ok (.if_icmp .ge 29, 3) := dk_162 0 29 (dk_at dksL_law_30 6 rfl rfl)
theorem dL_law_790 : decode cL_law 790 = .ok (.iload 15, 2) := dk_21 15 (dk_at dksL_law_30 9 rfl rfl)
theorem dL_law_792 : decode cL_law 792 = .ok (.aload 4, 2) := dk_25 4 (dk_at dksL_law_30 11 rfl rfl)
theorem dL_law_794 : decode cL_law 794 = .ok (.iload 16, 2) := dk_21 16 (dk_at dksL_law_30 13 rfl rfl)
theorem dL_law_796 : decode cL_law 796 = .ok (.iaload, 1) := dk_46 (dk_at dksL_law_30 15 rfl rfl)
theorem dL_law_797 : decode cL_law 797 = .ok (.iload 11, 2) := dk_21 11 (dk_at dksL_law_30 16 rfl rfl)
theorem dL_law_799 : decode cL_law 799 = .ok (.if_icmp .ne 7, 3) := dk_160 0 7 (dk_at dksL_law_30 18 rfl rfl)
theorem dL_law_802 : decode cL_law 802 = .ok (.iconst 1, 1) := dk_4 (dk_at dksL_law_30 21 rfl rfl)
theorem dL_law_803 : decode cL_law 803 = .ok (.goto 4, 3) := dk_167 0 4 (dk_at dksL_law_31 0 rfl rfl)
theorem dL_law_806 : decode cL_law 806 = .ok (.iconst 0, 1) := dk_3 (dk_at dksL_law_31 3 rfl rfl)
theorem dL_law_807 : decode cL_law 807 = .ok (.ior, 1) := dk_128 (dk_at dksL_law_31 4 rfl rfl)
theorem dL_law_808 : decode cL_law 808 = .ok (.istore 15, 2) := dk_54 15 (dk_at dksL_law_31 5 rfl rfl)
theorem dL_law_810 : decode cL_law 810 = .ok (.iinc 16 1, 3) := dk_132 16 1 (dk_at dksL_law_31 7 rfl rfl)
theorem dL_law_813 : decode cL_law 813 = .ok (.goto (-30), 3) := dk_167 255 226 (dk_at dksL_law_31 10 rfl rfl)
theorem dL_law_816 : decode cL_law 816 = .ok (.aload_n 1, 1) := dk_43 (dk_at dksL_law_31 13 rfl rfl)
theorem dL_law_817 : decode cL_law 817 = .ok (.iload 11, 2) := dk_21 11 (dk_at dksL_law_31 14 rfl rfl)
theorem dL_law_819 : decode cL_law 819 = .ok (.invokevirtual 61, 3) := dk_182 0 61 (dk_at dksL_law_31 16 rfl rfl)
theorem dL_law_822 : decode cL_law 822 = .ok (.iload 15, 2) := dk_21 15 (dk_at dksL_law_31 19 rfl rfl)
theorem dL_law_824 : decode cL_law 824 = .ok (.if_icmp .ne 12, 3) := dk_160 0 12 (dk_at dksL_law_31 21 rfl rfl)
theorem dL_law_827 : decode cL_law 827 = .ok (.aload_n 1, 1) := dk_43 (dk_at dksL_law_32 0 rfl rfl)
theorem dL_law_828 : decode cL_law 828 = .ok (.invokevirtual 64, 3) := dk_182 0 64 (dk_at dksL_law_32 1 rfl rfl)
theorem dL_law_831 : decode cL_law 831 = .ok (.iload 6, 2) := dk_21 6 (dk_at dksL_law_32 4 rfl rfl)
theorem dL_law_833 : decode cL_law 833 = .ok (.if_icmp .eq 53, 3) := dk_159 0 53 (dk_at dksL_law_32 6 rfl rfl)
theorem dL_law_836 : decode cL_law 836 = .ok (.iconst 0, 1) := dk_3 (dk_at dksL_law_32 9 rfl rfl)
theorem dL_law_837 : decode cL_law 837 = .ok (.ireturn, 1) := dk_172 (dk_at dksL_law_32 10 rfl rfl)
theorem dL_law_838 : decode cL_law 838 = .ok (.iconst 0, 1) := dk_3 (dk_at dksL_law_32 11 rfl rfl)
theorem dL_law_839 : decode cL_law 839 = .ok (.istore 15, 2) := dk_54 15 (dk_at dksL_law_32 12 rfl rfl)
theorem dL_law_841 : decode cL_law 841 = .ok (.iconst 0, 1) := dk_3 (dk_at dksL_law_32 14 rfl rfl)
theorem dL_law_842 : decode cL_law 842 = .ok (.istore 16, 2) := dk_54 16 (dk_at dksL_law_32 15 rfl rfl)
theorem dL_law_844 : decode cL_law 844 = .ok (.iload 16, 2) := dk_21 16 (dk_at dksL_law_32 17 rfl rfl)
theorem dL_law_846 : decode cL_law 846 = .ok (.iload 6, 2) := dk_21 6 (dk_at dksL_law_32 19 rfl rfl)
theorem dL_law_848 : decode cL_law 848 = .ok (.if_icmp .ge 27, 3) := dk_162 0 27 (dk_at dksL_law_32 21 rfl rfl)
theorem dL_law_851 : decode cL_law 851 = .ok (.iload 15, 2) := dk_21 15 (dk_at dksL_law_33 0 rfl rfl)
theorem dL_law_853 : decode cL_law 853 = .ok (.aload_n 3, 1) := dk_45 (dk_at dksL_law_33 2 rfl rfl)
theorem dL_law_854 : decode cL_law 854 = .ok (.iload 16, 2) := dk_21 16 (dk_at dksL_law_33 3 rfl rfl)
theorem dL_law_856 : decode cL_law 856 = .ok (.iaload, 1) := dk_46 (dk_at dksL_law_33 5 rfl rfl)
theorem dL_law_857 : decode cL_law 857 = .ok (.bipush 31, 2) := dk_16 31 (dk_at dksL_law_33 6 rfl rfl)
theorem dL_law_859 : decode cL_law 859 = .ok (.imul, 1) := dk_104 (dk_at dksL_law_33 8 rfl rfl)
theorem dL_law_860 : decode cL_law 860 = .ok (.aload 4, 2) := dk_25 4 (dk_at dksL_law_33 9 rfl rfl)
theorem dL_law_862 : decode cL_law 862 = .ok (.iload 16, 2) := dk_21 16 (dk_at dksL_law_33 11 rfl rfl)
theorem dL_law_864 : decode cL_law 864 = .ok (.iaload, 1) := dk_46 (dk_at dksL_law_33 13 rfl rfl)
theorem dL_law_865 : decode cL_law 865 = .ok (.ixor, 1) := dk_130 (dk_at dksL_law_33 14 rfl rfl)
theorem dL_law_866 : decode cL_law 866 = .ok (.iadd, 1) := dk_96 (dk_at dksL_law_33 15 rfl rfl)
theorem dL_law_867 : decode cL_law 867 = .ok (.istore 15, 2) := dk_54 15 (dk_at dksL_law_33 16 rfl rfl)
theorem dL_law_869 : decode cL_law 869 = .ok (.iinc 16 1, 3) := dk_132 16 1 (dk_at dksL_law_33 18 rfl rfl)
theorem dL_law_872 : decode cL_law 872 = .ok (.goto (-28), 3) := dk_167 255 228 (dk_at dksL_law_33 21 rfl rfl)
theorem dL_law_875 : decode cL_law 875 = .ok (.aload_n 1, 1) := dk_43 (dk_at dksL_law_34 0 rfl rfl)
theorem dL_law_876 : decode cL_law 876 = .ok (.invokevirtual 67, 3) := dk_182 0 67 (dk_at dksL_law_34 1 rfl rfl)
theorem dL_law_879 : decode cL_law 879 = .ok (.iload 15, 2) := dk_21 15 (dk_at dksL_law_34 4 rfl rfl)
theorem dL_law_881 : decode cL_law 881 = .ok (.if_icmp .eq 5, 3) := dk_159 0 5 (dk_at dksL_law_34 6 rfl rfl)
theorem dL_law_884 : decode cL_law 884 = .ok (.iconst 0, 1) := dk_3 (dk_at dksL_law_34 9 rfl rfl)
theorem dL_law_885 : decode cL_law 885 = .ok (.ireturn, 1) := dk_172 (dk_at dksL_law_34 10 rfl rfl)
theorem dL_law_886 : decode cL_law 886 = .ok (.iinc 7 3, 3) := dk_132 7 3 (dk_at dksL_law_34 11 rfl rfl)
theorem dL_law_889 : decode cL_law 889 = .ok (.goto (-856), 3) := dk_167 252 168 (dk_at dksL_law_34 14 rfl rfl)
theorem dL_law_892 : decode cL_law 892 = .ok (.iconst 1, 1) := dk_4 (dk_at dksL_law_34 17 rfl rfl)
theorem dL_law_893 : decode cL_law 893 = .ok (.ireturn, 1) := dk_172 (dk_at dksL_law_34 18 rfl rfl)
end
section
/-! names and decode rows of the synchronized methods (by gen_names.py) -/
set_option maxRecDepth 100000
abbrev cJ2_addElement : ByteArray := prog_33_method_26_code
def yJ2_addElement : MethodName := ⟨RJ2, "addElement", "(Ljava/lang/Object;)V"⟩
def dkwJ2_addElement_0 : List UInt8 := [42, 89, 180, 0, 74, 4, 96, 181, 0, 74, 42, 43, 42, 180, 0, 30, 42, 180, 0, 52, 182, 0, 125, 177]
abbrev dktJ2_addElement_0 : List UInt8 := dkwJ2_addElement_0 ++ []
theorem dksJ2_addElement_0 : cJ2_addElement.data.toList.drop 0 = dktJ2_addElement_0 := by decide +kernel
theorem dJ2_addElement_0 : decode cJ2_addElement 0 = .ok (.aload_n 0, 1) := dk_42 (dk_at dksJ2_addElement_0 0 rfl rfl)
theorem dJ2_addElement_1 : decode cJ2_addElement 1 = .ok (.dup, 1) := dk_89 (dk_at dksJ2_addElement_0 1 rfl rfl)
theorem dJ2_addElement_2 : decode cJ2_addElement 2 = .ok (.getfield 74, 3) := dk_180 0 74 (dk_at dksJ2_addElement_0 2 rfl rfl)
theorem dJ2_addElement_5 : decode cJ2_addElement 5 = .ok (.iconst 1, 1) := dk_4 (dk_at dksJ2_addElement_0 5 rfl rfl)
theorem dJ2_addElement_6 : decode cJ2_addElement 6 = .ok (.iadd, 1) := dk_96 (dk_at dksJ2_addElement_0 6 rfl rfl)
theorem dJ2_addElement_7 : decode cJ2_addElement 7 = .ok (.putfield 74, 3) := dk_181 0 74 (dk_at dksJ2_addElement_0 7 rfl rfl)
theorem dJ2_addElement_10 : decode cJ2_addElement 10 = .ok (.aload_n 0, 1) := dk_42 (dk_at dksJ2_addElement_0 10 rfl rfl)
theorem dJ2_addElement_11 : decode cJ2_addElement 11 = .ok (.aload_n 1, 1) := dk_43 (dk_at dksJ2_addElement_0 11 rfl rfl)
theorem dJ2_addElement_12 : decode cJ2_addElement 12 = .ok (.aload_n 0, 1) := dk_42 (dk_at dksJ2_addElement_0 12 rfl rfl)
theorem dJ2_addElement_13 : decode cJ2_addElement 13 = .ok (.getfield 30, 3) := dk_180 0 30 (dk_at dksJ2_addElement_0 13 rfl rfl)
theorem dJ2_addElement_16 : decode cJ2_addElement 16 = .ok (.aload_n 0, 1) := dk_42 (dk_at dksJ2_addElement_0 16 rfl rfl)
theorem dJ2_addElement_17 : decode cJ2_addElement 17 = .ok (.getfield 52, 3) := dk_180 0 52 (dk_at dksJ2_addElement_0 17 rfl rfl)
theorem dJ2_addElement_20 : decode cJ2_addElement 20 = .ok (.invokevirtual 125, 3) := dk_182 0 125 (dk_at dksJ2_addElement_0 20 rfl rfl)
theorem dJ2_addElement_23 : decode cJ2_addElement 23 = .ok (.return_, 1) := dk_177 (dk_at dksJ2_addElement_0 23 rfl rfl)
abbrev cJ2_size : ByteArray := prog_33_method_12_code
def yJ2_size : MethodName := ⟨RJ2, "size", "()I"⟩
def dkwJ2_size_0 : List UInt8 := [42, 180, 0, 52, 172]
abbrev dktJ2_size_0 : List UInt8 := dkwJ2_size_0 ++ []
theorem dksJ2_size_0 : cJ2_size.data.toList.drop 0 = dktJ2_size_0 := by decide +kernel
theorem dJ2_size_0 : decode cJ2_size 0 = .ok (.aload_n 0, 1) := dk_42 (dk_at dksJ2_size_0 0 rfl rfl)
theorem dJ2_size_1 : decode cJ2_size 1 = .ok (.getfield 52, 3) := dk_180 0 52 (dk_at dksJ2_size_0 1 rfl rfl)
theorem dJ2_size_4 : decode cJ2_size 4 = .ok (.ireturn, 1) := dk_172 (dk_at dksJ2_size_0 4 rfl rfl)
abbrev cJ2_elementAt : ByteArray := prog_33_method_20_code
def yJ2_elementAt : MethodName := ⟨RJ2, "elementAt", "(I)Ljava/lang/Object;"⟩
def dkwJ2_elementAt_2 : List UInt8 := [176]
abbrev dktJ2_elementAt_2 : List UInt8 := dkwJ2_elementAt_2 ++ []
def dkwJ2_elementAt_1 : List UInt8 := [18, 108, 182, 0, 14, 42, 180, 0, 52, 182, 0, 18, 182, 0, 21, 183, 0, 113, 191, 42, 27, 182, 0, 114]
abbrev dktJ2_elementAt_1 : List UInt8 := dkwJ2_elementAt_1 ++ dktJ2_elementAt_2
def dkwJ2_elementAt_0 : List UInt8 := [27, 42, 180, 0, 52, 161, 0, 37, 187, 0, 111, 89, 187, 0, 9, 89, 183, 0, 11, 27, 182, 0, 18]
abbrev dktJ2_elementAt_0 : List UInt8 := dkwJ2_elementAt_0 ++ dktJ2_elementAt_1
theorem dksJ2_elementAt_0 : cJ2_elementAt.data.toList.drop 0 = dktJ2_elementAt_0 := by decide +kernel
theorem dksJ2_elementAt_1 : cJ2_elementAt.data.toList.drop 23 = dktJ2_elementAt_1 := dk_seg dksJ2_elementAt_0 23 rfl rfl
theorem dksJ2_elementAt_2 : cJ2_elementAt.data.toList.drop 47 = dktJ2_elementAt_2 := dk_seg dksJ2_elementAt_1 24 rfl rfl
theorem dJ2_elementAt_0 : decode cJ2_elementAt 0 = .ok (.iload_n 1, 1) := dk_27 (dk_at dksJ2_elementAt_0 0 rfl rfl)
theorem dJ2_elementAt_1 : decode cJ2_elementAt 1 = .ok (.aload_n 0, 1) := dk_42 (dk_at dksJ2_elementAt_0 1 rfl rfl)
theorem dJ2_elementAt_2 : decode cJ2_elementAt 2 = .ok (.getfield 52, 3) := dk_180 0 52 (dk_at dksJ2_elementAt_0 2 rfl rfl)
theorem dJ2_elementAt_5 : decode cJ2_elementAt 5 = .ok (.if_icmp .lt 37, 3) := dk_161 0 37 (dk_at dksJ2_elementAt_0 5 rfl rfl)
theorem dJ2_elementAt_8 : decode cJ2_elementAt 8 = .ok (.new 111, 3) := dk_187 0 111 (dk_at dksJ2_elementAt_0 8 rfl rfl)
theorem dJ2_elementAt_11 : decode cJ2_elementAt 11 = .ok (.dup, 1) := dk_89 (dk_at dksJ2_elementAt_0 11 rfl rfl)
theorem dJ2_elementAt_12 : decode cJ2_elementAt 12 = .ok (.new 9, 3) := dk_187 0 9 (dk_at dksJ2_elementAt_0 12 rfl rfl)
theorem dJ2_elementAt_15 : decode cJ2_elementAt 15 = .ok (.dup, 1) := dk_89 (dk_at dksJ2_elementAt_0 15 rfl rfl)
theorem dJ2_elementAt_16 : decode cJ2_elementAt 16 = .ok (.invokespecial 11, 3) := dk_183 0 11 (dk_at dksJ2_elementAt_0 16 rfl rfl)
theorem dJ2_elementAt_19 : decode cJ2_elementAt 19 = .ok (.iload_n 1, 1) := dk_27 (dk_at dksJ2_elementAt_0 19 rfl rfl)
theorem dJ2_elementAt_20 : decode cJ2_elementAt 20 = .ok (.invokevirtual 18, 3) := dk_182 0 18 (dk_at dksJ2_elementAt_0 20 rfl rfl)
theorem dJ2_elementAt_23 : decode cJ2_elementAt 23 = .ok (.ldc 108, 2) := dk_18 108 (dk_at dksJ2_elementAt_1 0 rfl rfl)
theorem dJ2_elementAt_25 : decode cJ2_elementAt 25 = .ok (.invokevirtual 14, 3) := dk_182 0 14 (dk_at dksJ2_elementAt_1 2 rfl rfl)
theorem dJ2_elementAt_28 : decode cJ2_elementAt 28 = .ok (.aload_n 0, 1) := dk_42 (dk_at dksJ2_elementAt_1 5 rfl rfl)
theorem dJ2_elementAt_29 : decode cJ2_elementAt 29 = .ok (.getfield 52, 3) := dk_180 0 52 (dk_at dksJ2_elementAt_1 6 rfl rfl)
theorem dJ2_elementAt_32 : decode cJ2_elementAt 32 = .ok (.invokevirtual 18, 3) := dk_182 0 18 (dk_at dksJ2_elementAt_1 9 rfl rfl)
theorem dJ2_elementAt_35 : decode cJ2_elementAt 35 = .ok (.invokevirtual 21, 3) := dk_182 0 21 (dk_at dksJ2_elementAt_1 12 rfl rfl)
theorem dJ2_elementAt_38 : decode cJ2_elementAt 38 = .ok (.invokespecial 113, 3) := dk_183 0 113 (dk_at dksJ2_elementAt_1 15 rfl rfl)
theorem dJ2_elementAt_41 : decode cJ2_elementAt 41 = .ok (.athrow, 1) := dk_191 (dk_at dksJ2_elementAt_1 18 rfl rfl)
theorem dJ2_elementAt_42 : decode cJ2_elementAt 42 = .ok (.aload_n 0, 1) := dk_42 (dk_at dksJ2_elementAt_1 19 rfl rfl)
theorem dJ2_elementAt_43 : decode cJ2_elementAt 43 = .ok (.iload_n 1, 1) := dk_27 (dk_at dksJ2_elementAt_1 20 rfl rfl)
theorem dJ2_elementAt_44 : decode cJ2_elementAt 44 = .ok (.invokevirtual 114, 3) := dk_182 0 114 (dk_at dksJ2_elementAt_1 21 rfl rfl)
theorem dJ2_elementAt_47 : decode cJ2_elementAt 47 = .ok (.areturn, 1) := dk_176 (dk_at dksJ2_elementAt_2 0 rfl rfl)
abbrev cJ2_removeElementAt : ByteArray := prog_33_method_24_code
def yJ2_removeElementAt : MethodName := ⟨RJ2, "removeElementAt", "(I)V"⟩
def dkwJ2_removeElementAt_4 : List UInt8 := [181, 0, 74, 42, 89, 180, 0, 52, 4, 100, 181, 0, 52, 42, 180, 0, 30, 42, 180, 0, 52, 1, 83, 177]
abbrev dktJ2_removeElementAt_4 : List UInt8 := dkwJ2_removeElementAt_4 ++ []
def dkwJ2_removeElementAt_3 : List UInt8 := [180, 0, 30, 27, 4, 96, 42, 180, 0, 30, 27, 28, 184, 0, 68, 42, 89, 180, 0, 74, 4, 96]
abbrev dktJ2_removeElementAt_3 : List UInt8 := dkwJ2_removeElementAt_3 ++ dktJ2_removeElementAt_4
def dkwJ2_removeElementAt_2 : List UInt8 := [187, 0, 111, 89, 27, 183, 0, 120, 191, 42, 180, 0, 52, 27, 100, 4, 100, 61, 28, 158, 0, 19, 42]
abbrev dktJ2_removeElementAt_2 : List UInt8 := dkwJ2_removeElementAt_2 ++ dktJ2_removeElementAt_3
def dkwJ2_removeElementAt_1 : List UInt8 := [18, 108, 182, 0, 14, 42, 180, 0, 52, 182, 0, 18, 182, 0, 21, 183, 0, 113, 191, 27, 156, 0, 12]
abbrev dktJ2_removeElementAt_1 : List UInt8 := dkwJ2_removeElementAt_1 ++ dktJ2_removeElementAt_2
def dkwJ2_removeElementAt_0 : List UInt8 := [27, 42, 180, 0, 52, 161, 0, 37, 187, 0, 111, 89, 187, 0, 9, 89, 183, 0, 11, 27, 182, 0, 18]
abbrev dktJ2_removeElementAt_0 : List UInt8 := dkwJ2_removeElementAt_0 ++ dktJ2_removeElementAt_1
theorem dksJ2_removeElementAt_0 : cJ2_removeElementAt.data.toList.drop 0 = dktJ2_removeElementAt_0 := by decide +kernel
theorem dksJ2_removeElementAt_1 : cJ2_removeElementAt.data.toList.drop 23 = dktJ2_removeElementAt_1 := dk_seg dksJ2_removeElementAt_0 23 rfl rfl
theorem dksJ2_removeElementAt_2 : cJ2_removeElementAt.data.toList.drop 46 = dktJ2_removeElementAt_2 := dk_seg dksJ2_removeElementAt_1 23 rfl rfl
theorem dksJ2_removeElementAt_3 : cJ2_removeElementAt.data.toList.drop 69 = dktJ2_removeElementAt_3 := dk_seg dksJ2_removeElementAt_2 23 rfl rfl
theorem dksJ2_removeElementAt_4 : cJ2_removeElementAt.data.toList.drop 91 = dktJ2_removeElementAt_4 := dk_seg dksJ2_removeElementAt_3 22 rfl rfl
theorem dJ2_removeElementAt_0 : decode cJ2_removeElementAt 0 = .ok (.iload_n 1, 1) := dk_27 (dk_at dksJ2_removeElementAt_0 0 rfl rfl)
theorem dJ2_removeElementAt_1 : decode cJ2_removeElementAt 1 = .ok (.aload_n 0, 1) := dk_42 (dk_at dksJ2_removeElementAt_0 1 rfl rfl)
theorem dJ2_removeElementAt_2 : decode cJ2_removeElementAt 2 = .ok (.getfield 52, 3) := dk_180 0 52 (dk_at dksJ2_removeElementAt_0 2 rfl rfl)
theorem dJ2_removeElementAt_5 : decode cJ2_removeElementAt 5 = .ok (.if_icmp .lt 37, 3) := dk_161 0 37 (dk_at dksJ2_removeElementAt_0 5 rfl rfl)
theorem dJ2_removeElementAt_8 : decode cJ2_removeElementAt 8 = .ok (.new 111, 3) := dk_187 0 111 (dk_at dksJ2_removeElementAt_0 8 rfl rfl)
theorem dJ2_removeElementAt_11 : decode cJ2_removeElementAt 11 = .ok (.dup, 1) := dk_89 (dk_at dksJ2_removeElementAt_0 11 rfl rfl)
theorem dJ2_removeElementAt_12 : decode cJ2_removeElementAt 12 = .ok (.new 9, 3) := dk_187 0 9 (dk_at dksJ2_removeElementAt_0 12 rfl rfl)
theorem dJ2_removeElementAt_15 : decode cJ2_removeElementAt 15 = .ok (.dup, 1) := dk_89 (dk_at dksJ2_removeElementAt_0 15 rfl rfl)
theorem dJ2_removeElementAt_16 : decode cJ2_removeElementAt 16 = .ok (.invokespecial 11, 3) := dk_183 0 11 (dk_at dksJ2_removeElementAt_0 16 rfl rfl)
theorem dJ2_removeElementAt_19 : decode cJ2_removeElementAt 19 = .ok (.iload_n 1, 1) := dk_27 (dk_at dksJ2_removeElementAt_0 19 rfl rfl)
theorem dJ2_removeElementAt_20 : decode cJ2_removeElementAt 20 = .ok (.invokevirtual 18, 3) := dk_182 0 18 (dk_at dksJ2_removeElementAt_0 20 rfl rfl)
theorem dJ2_removeElementAt_23 : decode cJ2_removeElementAt 23 = .ok (.ldc 108, 2) := dk_18 108 (dk_at dksJ2_removeElementAt_1 0 rfl rfl)
theorem dJ2_removeElementAt_25 : decode cJ2_removeElementAt 25 = .ok (.invokevirtual 14, 3) := dk_182 0 14 (dk_at dksJ2_removeElementAt_1 2 rfl rfl)
theorem dJ2_removeElementAt_28 : decode cJ2_removeElementAt 28 = .ok (.aload_n 0, 1) := dk_42 (dk_at dksJ2_removeElementAt_1 5 rfl rfl)
theorem dJ2_removeElementAt_29 : decode cJ2_removeElementAt 29 = .ok (.getfield 52, 3) := dk_180 0 52 (dk_at dksJ2_removeElementAt_1 6 rfl rfl)
theorem dJ2_removeElementAt_32 : decode cJ2_removeElementAt 32 = .ok (.invokevirtual 18, 3) := dk_182 0 18 (dk_at dksJ2_removeElementAt_1 9 rfl rfl)
theorem dJ2_removeElementAt_35 : decode cJ2_removeElementAt 35 = .ok (.invokevirtual 21, 3) := dk_182 0 21 (dk_at dksJ2_removeElementAt_1 12 rfl rfl)
theorem dJ2_removeElementAt_38 : decode cJ2_removeElementAt 38 = .ok (.invokespecial 113, 3) := dk_183 0 113 (dk_at dksJ2_removeElementAt_1 15 rfl rfl)
theorem dJ2_removeElementAt_41 : decode cJ2_removeElementAt 41 = .ok (.athrow, 1) := dk_191 (dk_at dksJ2_removeElementAt_1 18 rfl rfl)
theorem dJ2_removeElementAt_42 : decode cJ2_removeElementAt 42 = .ok (.iload_n 1, 1) := dk_27 (dk_at dksJ2_removeElementAt_1 19 rfl rfl)
theorem dJ2_removeElementAt_43 : decode cJ2_removeElementAt 43 = .ok (.ifCond .ge 12, 3) := dk_156 0 12 (dk_at dksJ2_removeElementAt_1 20 rfl rfl)
theorem dJ2_removeElementAt_46 : decode cJ2_removeElementAt 46 = .ok (.new 111, 3) := dk_187 0 111 (dk_at dksJ2_removeElementAt_2 0 rfl rfl)
theorem dJ2_removeElementAt_49 : decode cJ2_removeElementAt 49 = .ok (.dup, 1) := dk_89 (dk_at dksJ2_removeElementAt_2 3 rfl rfl)
theorem dJ2_removeElementAt_50 : decode cJ2_removeElementAt 50 = .ok (.iload_n 1, 1) := dk_27 (dk_at dksJ2_removeElementAt_2 4 rfl rfl)
theorem dJ2_removeElementAt_51 : decode cJ2_removeElementAt 51 = .ok (.invokespecial 120, 3) := dk_183 0 120 (dk_at dksJ2_removeElementAt_2 5 rfl rfl)
theorem dJ2_removeElementAt_54 : decode cJ2_removeElementAt 54 = .ok (.athrow, 1) := dk_191 (dk_at dksJ2_removeElementAt_2 8 rfl rfl)
theorem dJ2_removeElementAt_55 : decode cJ2_removeElementAt 55 = .ok (.aload_n 0, 1) := dk_42 (dk_at dksJ2_removeElementAt_2 9 rfl rfl)
theorem dJ2_removeElementAt_56 : decode cJ2_removeElementAt 56 = .ok (.getfield 52, 3) := dk_180 0 52 (dk_at dksJ2_removeElementAt_2 10 rfl rfl)
theorem dJ2_removeElementAt_59 : decode cJ2_removeElementAt 59 = .ok (.iload_n 1, 1) := dk_27 (dk_at dksJ2_removeElementAt_2 13 rfl rfl)
theorem dJ2_removeElementAt_60 : decode cJ2_removeElementAt 60 = .ok (.isub, 1) := dk_100 (dk_at dksJ2_removeElementAt_2 14 rfl rfl)
theorem dJ2_removeElementAt_61 : decode cJ2_removeElementAt 61 = .ok (.iconst 1, 1) := dk_4 (dk_at dksJ2_removeElementAt_2 15 rfl rfl)
theorem dJ2_removeElementAt_62 : decode cJ2_removeElementAt 62 = .ok (.isub, 1) := dk_100 (dk_at dksJ2_removeElementAt_2 16 rfl rfl)
theorem dJ2_removeElementAt_63 : decode cJ2_removeElementAt 63 = .ok (.istore_n 2, 1) := dk_61 (dk_at dksJ2_removeElementAt_2 17 rfl rfl)
theorem dJ2_removeElementAt_64 : decode cJ2_removeElementAt 64 = .ok (.iload_n 2, 1) := dk_28 (dk_at dksJ2_removeElementAt_2 18 rfl rfl)
theorem dJ2_removeElementAt_65 : decode cJ2_removeElementAt 65 = .ok (.ifCond .le 19, 3) := dk_158 0 19 (dk_at dksJ2_removeElementAt_2 19 rfl rfl)
theorem dJ2_removeElementAt_68 : decode cJ2_removeElementAt 68 = .ok (.aload_n 0, 1) := dk_42 (dk_at dksJ2_removeElementAt_2 22 rfl rfl)
theorem dJ2_removeElementAt_69 : decode cJ2_removeElementAt 69 = .ok (.getfield 30, 3) := dk_180 0 30 (dk_at dksJ2_removeElementAt_3 0 rfl rfl)
theorem dJ2_removeElementAt_72 : decode cJ2_removeElementAt 72 = .ok (.iload_n 1, 1) := dk_27 (dk_at dksJ2_removeElementAt_3 3 rfl rfl)
theorem dJ2_removeElementAt_73 : decode cJ2_removeElementAt 73 = .ok (.iconst 1, 1) := dk_4 (dk_at dksJ2_removeElementAt_3 4 rfl rfl)
theorem dJ2_removeElementAt_74 : decode cJ2_removeElementAt 74 = .ok (.iadd, 1) := dk_96 (dk_at dksJ2_removeElementAt_3 5 rfl rfl)
theorem dJ2_removeElementAt_75 : decode cJ2_removeElementAt 75 = .ok (.aload_n 0, 1) := dk_42 (dk_at dksJ2_removeElementAt_3 6 rfl rfl)
theorem dJ2_removeElementAt_76 : decode cJ2_removeElementAt 76 = .ok (.getfield 30, 3) := dk_180 0 30 (dk_at dksJ2_removeElementAt_3 7 rfl rfl)
theorem dJ2_removeElementAt_79 : decode cJ2_removeElementAt 79 = .ok (.iload_n 1, 1) := dk_27 (dk_at dksJ2_removeElementAt_3 10 rfl rfl)
theorem dJ2_removeElementAt_80 : decode cJ2_removeElementAt 80 = .ok (.iload_n 2, 1) := dk_28 (dk_at dksJ2_removeElementAt_3 11 rfl rfl)
theorem dJ2_removeElementAt_81 : decode cJ2_removeElementAt 81 = .ok (.invokestatic 68, 3) := dk_184 0 68 (dk_at dksJ2_removeElementAt_3 12 rfl rfl)
theorem dJ2_removeElementAt_84 : decode cJ2_removeElementAt 84 = .ok (.aload_n 0, 1) := dk_42 (dk_at dksJ2_removeElementAt_3 15 rfl rfl)
theorem dJ2_removeElementAt_85 : decode cJ2_removeElementAt 85 = .ok (.dup, 1) := dk_89 (dk_at dksJ2_removeElementAt_3 16 rfl rfl)
theorem dJ2_removeElementAt_86 : decode cJ2_removeElementAt 86 = .ok (.getfield 74, 3) := dk_180 0 74 (dk_at dksJ2_removeElementAt_3 17 rfl rfl)
theorem dJ2_removeElementAt_89 : decode cJ2_removeElementAt 89 = .ok (.iconst 1, 1) := dk_4 (dk_at dksJ2_removeElementAt_3 20 rfl rfl)
theorem dJ2_removeElementAt_90 : decode cJ2_removeElementAt 90 = .ok (.iadd, 1) := dk_96 (dk_at dksJ2_removeElementAt_3 21 rfl rfl)
theorem dJ2_removeElementAt_91 : decode cJ2_removeElementAt 91 = .ok (.putfield 74, 3) := dk_181 0 74 (dk_at dksJ2_removeElementAt_4 0 rfl rfl)
theorem dJ2_removeElementAt_94 : decode cJ2_removeElementAt 94 = .ok (.aload_n 0, 1) := dk_42 (dk_at dksJ2_removeElementAt_4 3 rfl rfl)
theorem dJ2_removeElementAt_95 : decode cJ2_removeElementAt 95 = .ok (.dup, 1) := dk_89 (dk_at dksJ2_removeElementAt_4 4 rfl rfl)
theorem dJ2_removeElementAt_96 : decode cJ2_removeElementAt 96 = .ok (.getfield 52, 3) := dk_180 0 52 (dk_at dksJ2_removeElementAt_4 5 rfl rfl)
theorem dJ2_removeElementAt_99 : decode cJ2_removeElementAt 99 = .ok (.iconst 1, 1) := dk_4 (dk_at dksJ2_removeElementAt_4 8 rfl rfl)
theorem dJ2_removeElementAt_100 : decode cJ2_removeElementAt 100 = .ok (.isub, 1) := dk_100 (dk_at dksJ2_removeElementAt_4 9 rfl rfl)
theorem dJ2_removeElementAt_101 : decode cJ2_removeElementAt 101 = .ok (.putfield 52, 3) := dk_181 0 52 (dk_at dksJ2_removeElementAt_4 10 rfl rfl)
theorem dJ2_removeElementAt_104 : decode cJ2_removeElementAt 104 = .ok (.aload_n 0, 1) := dk_42 (dk_at dksJ2_removeElementAt_4 13 rfl rfl)
theorem dJ2_removeElementAt_105 : decode cJ2_removeElementAt 105 = .ok (.getfield 30, 3) := dk_180 0 30 (dk_at dksJ2_removeElementAt_4 14 rfl rfl)
theorem dJ2_removeElementAt_108 : decode cJ2_removeElementAt 108 = .ok (.aload_n 0, 1) := dk_42 (dk_at dksJ2_removeElementAt_4 17 rfl rfl)
theorem dJ2_removeElementAt_109 : decode cJ2_removeElementAt 109 = .ok (.getfield 52, 3) := dk_180 0 52 (dk_at dksJ2_removeElementAt_4 18 rfl rfl)
theorem dJ2_removeElementAt_112 : decode cJ2_removeElementAt 112 = .ok (.aconst_null, 1) := by decide +kernel
theorem dJ2_removeElementAt_113 : decode cJ2_removeElementAt 113 = .ok (.aastore, 1) := dk_83 (dk_at dksJ2_removeElementAt_4 22 rfl rfl)
theorem dJ2_removeElementAt_114 : decode cJ2_removeElementAt 114 = .ok (.return_, 1) := dk_177 (dk_at dksJ2_removeElementAt_4 23 rfl rfl)
abbrev cJ2_lastIndexOf : ByteArray := prog_33_method_18_code
def yJ2_lastIndexOf : MethodName := ⟨RJ2, "lastIndexOf", "(Ljava/lang/Object;)I"⟩
def dkwJ2_lastIndexOf_0 : List UInt8 := [42, 43, 42, 180, 0, 52, 4, 100, 182, 0, 103, 172]
abbrev dktJ2_lastIndexOf_0 : List UInt8 := dkwJ2_lastIndexOf_0 ++ []
theorem dksJ2_lastIndexOf_0 : cJ2_lastIndexOf.data.toList.drop 0 = dktJ2_lastIndexOf_0 := by decide +kernel
theorem dJ2_lastIndexOf_0 : decode cJ2_lastIndexOf 0 = .ok (.aload_n 0, 1) := dk_42 (dk_at dksJ2_lastIndexOf_0 0 rfl rfl)
theorem dJ2_lastIndexOf_1 : decode cJ2_lastIndexOf 1 = .ok (.aload_n 1, 1) := dk_43 (dk_at dksJ2_lastIndexOf_0 1 rfl rfl)
theorem dJ2_lastIndexOf_2 : decode cJ2_lastIndexOf 2 = .ok (.aload_n 0, 1) := dk_42 (dk_at dksJ2_lastIndexOf_0 2 rfl rfl)
theorem dJ2_lastIndexOf_3 : decode cJ2_lastIndexOf 3 = .ok (.getfield 52, 3) := dk_180 0 52 (dk_at dksJ2_lastIndexOf_0 3 rfl rfl)
theorem dJ2_lastIndexOf_6 : decode cJ2_lastIndexOf 6 = .ok (.iconst 1, 1) := dk_4 (dk_at dksJ2_lastIndexOf_0 6 rfl rfl)
theorem dJ2_lastIndexOf_7 : decode cJ2_lastIndexOf 7 = .ok (.isub, 1) := dk_100 (dk_at dksJ2_lastIndexOf_0 7 rfl rfl)
theorem dJ2_lastIndexOf_8 : decode cJ2_lastIndexOf 8 = .ok (.invokevirtual 103, 3) := dk_182 0 103 (dk_at dksJ2_lastIndexOf_0 8 rfl rfl)
theorem dJ2_lastIndexOf_11 : decode cJ2_lastIndexOf 11 = .ok (.ireturn, 1) := dk_172 (dk_at dksJ2_lastIndexOf_0 11 rfl rfl)
abbrev cJ2_lastIndexOf_2 : ByteArray := prog_33_method_19_code
def yJ2_lastIndexOf_2 : MethodName := ⟨RJ2, "lastIndexOf", "(Ljava/lang/Object;I)I"⟩
def dkwJ2_lastIndexOf_2_4 : List UInt8 := [132, 3, 255, 167, 255, 234, 2, 172]
abbrev dktJ2_lastIndexOf_2_4 : List UInt8 := dkwJ2_lastIndexOf_2_4 ++ []
def dkwJ2_lastIndexOf_2_3 : List UInt8 := [167, 0, 30, 28, 62, 29, 155, 0, 24, 43, 42, 180, 0, 30, 29, 50, 182, 0, 99, 153, 0, 5, 29, 172]
abbrev dktJ2_lastIndexOf_2_3 : List UInt8 := dkwJ2_lastIndexOf_2_3 ++ dktJ2_lastIndexOf_2_4
def dkwJ2_lastIndexOf_2_2 : List UInt8 := [62, 29, 155, 0, 20, 42, 180, 0, 30, 29, 50, 199, 0, 5, 29, 172, 132, 3, 255, 167, 255, 238]
abbrev dktJ2_lastIndexOf_2_2 : List UInt8 := dkwJ2_lastIndexOf_2_2 ++ dktJ2_lastIndexOf_2_3
def dkwJ2_lastIndexOf_2_1 : List UInt8 := [18, 108, 182, 0, 14, 42, 180, 0, 52, 182, 0, 18, 182, 0, 21, 183, 0, 110, 191, 43, 199, 0, 29, 28]
abbrev dktJ2_lastIndexOf_2_1 : List UInt8 := dkwJ2_lastIndexOf_2_1 ++ dktJ2_lastIndexOf_2_2
def dkwJ2_lastIndexOf_2_0 : List UInt8 := [28, 42, 180, 0, 52, 161, 0, 37, 187, 0, 106, 89, 187, 0, 9, 89, 183, 0, 11, 28, 182, 0, 18]
abbrev dktJ2_lastIndexOf_2_0 : List UInt8 := dkwJ2_lastIndexOf_2_0 ++ dktJ2_lastIndexOf_2_1
theorem dksJ2_lastIndexOf_2_0 : cJ2_lastIndexOf_2.data.toList.drop 0 = dktJ2_lastIndexOf_2_0 := by decide +kernel
theorem dksJ2_lastIndexOf_2_1 : cJ2_lastIndexOf_2.data.toList.drop 23 = dktJ2_lastIndexOf_2_1 := dk_seg dksJ2_lastIndexOf_2_0 23 rfl rfl
theorem dksJ2_lastIndexOf_2_2 : cJ2_lastIndexOf_2.data.toList.drop 47 = dktJ2_lastIndexOf_2_2 := dk_seg dksJ2_lastIndexOf_2_1 24 rfl rfl
theorem dksJ2_lastIndexOf_2_3 : cJ2_lastIndexOf_2.data.toList.drop 69 = dktJ2_lastIndexOf_2_3 := dk_seg dksJ2_lastIndexOf_2_2 22 rfl rfl
theorem dksJ2_lastIndexOf_2_4 : cJ2_lastIndexOf_2.data.toList.drop 93 = dktJ2_lastIndexOf_2_4 := dk_seg dksJ2_lastIndexOf_2_3 24 rfl rfl
theorem dJ2_lastIndexOf_2_0 : decode cJ2_lastIndexOf_2 0 = .ok (.iload_n 2, 1) := dk_28 (dk_at dksJ2_lastIndexOf_2_0 0 rfl rfl)
theorem dJ2_lastIndexOf_2_1 : decode cJ2_lastIndexOf_2 1 = .ok (.aload_n 0, 1) := dk_42 (dk_at dksJ2_lastIndexOf_2_0 1 rfl rfl)
theorem dJ2_lastIndexOf_2_2 : decode cJ2_lastIndexOf_2 2 = .ok (.getfield 52, 3) := dk_180 0 52 (dk_at dksJ2_lastIndexOf_2_0 2 rfl rfl)
theorem dJ2_lastIndexOf_2_5 : decode cJ2_lastIndexOf_2 5 = .ok (.if_icmp .lt 37, 3) := dk_161 0 37 (dk_at dksJ2_lastIndexOf_2_0 5 rfl rfl)
theorem dJ2_lastIndexOf_2_8 : decode cJ2_lastIndexOf_2 8 = .ok (.new 106, 3) := dk_187 0 106 (dk_at dksJ2_lastIndexOf_2_0 8 rfl rfl)
theorem dJ2_lastIndexOf_2_11 : decode cJ2_lastIndexOf_2 11 = .ok (.dup, 1) := dk_89 (dk_at dksJ2_lastIndexOf_2_0 11 rfl rfl)
theorem dJ2_lastIndexOf_2_12 : decode cJ2_lastIndexOf_2 12 = .ok (.new 9, 3) := dk_187 0 9 (dk_at dksJ2_lastIndexOf_2_0 12 rfl rfl)
theorem dJ2_lastIndexOf_2_15 : decode cJ2_lastIndexOf_2 15 = .ok (.dup, 1) := dk_89 (dk_at dksJ2_lastIndexOf_2_0 15 rfl rfl)
theorem dJ2_lastIndexOf_2_16 : decode cJ2_lastIndexOf_2 16 = .ok (.invokespecial 11, 3) := dk_183 0 11 (dk_at dksJ2_lastIndexOf_2_0 16 rfl rfl)
theorem dJ2_lastIndexOf_2_19 : decode cJ2_lastIndexOf_2 19 = .ok (.iload_n 2, 1) := dk_28 (dk_at dksJ2_lastIndexOf_2_0 19 rfl rfl)
theorem dJ2_lastIndexOf_2_20 : decode cJ2_lastIndexOf_2 20 = .ok (.invokevirtual 18, 3) := dk_182 0 18 (dk_at dksJ2_lastIndexOf_2_0 20 rfl rfl)
theorem dJ2_lastIndexOf_2_23 : decode cJ2_lastIndexOf_2 23 = .ok (.ldc 108, 2) := dk_18 108 (dk_at dksJ2_lastIndexOf_2_1 0 rfl rfl)
theorem dJ2_lastIndexOf_2_25 : decode cJ2_lastIndexOf_2 25 = .ok (.invokevirtual 14, 3) := dk_182 0 14 (dk_at dksJ2_lastIndexOf_2_1 2 rfl rfl)
theorem dJ2_lastIndexOf_2_28 : decode cJ2_lastIndexOf_2 28 = .ok (.aload_n 0, 1) := dk_42 (dk_at dksJ2_lastIndexOf_2_1 5 rfl rfl)
theorem dJ2_lastIndexOf_2_29 : decode cJ2_lastIndexOf_2 29 = .ok (.getfield 52, 3) := dk_180 0 52 (dk_at dksJ2_lastIndexOf_2_1 6 rfl rfl)
theorem dJ2_lastIndexOf_2_32 : decode cJ2_lastIndexOf_2 32 = .ok (.invokevirtual 18, 3) := dk_182 0 18 (dk_at dksJ2_lastIndexOf_2_1 9 rfl rfl)
theorem dJ2_lastIndexOf_2_35 : decode cJ2_lastIndexOf_2 35 = .ok (.invokevirtual 21, 3) := dk_182 0 21 (dk_at dksJ2_lastIndexOf_2_1 12 rfl rfl)
theorem dJ2_lastIndexOf_2_38 : decode cJ2_lastIndexOf_2 38 = .ok (.invokespecial 110, 3) := dk_183 0 110 (dk_at dksJ2_lastIndexOf_2_1 15 rfl rfl)
theorem dJ2_lastIndexOf_2_41 : decode cJ2_lastIndexOf_2 41 = .ok (.athrow, 1) := dk_191 (dk_at dksJ2_lastIndexOf_2_1 18 rfl rfl)
theorem dJ2_lastIndexOf_2_42 : decode cJ2_lastIndexOf_2 42 = .ok (.aload_n 1, 1) := dk_43 (dk_at dksJ2_lastIndexOf_2_1 19 rfl rfl)
theorem dJ2_lastIndexOf_2_43 : decode cJ2_lastIndexOf_2 43 = .ok (.ifnonnull 29, 3) := dk_199 0 29 (dk_at dksJ2_lastIndexOf_2_1 20 rfl rfl)
theorem dJ2_lastIndexOf_2_46 : decode cJ2_lastIndexOf_2 46 = .ok (.iload_n 2, 1) := dk_28 (dk_at dksJ2_lastIndexOf_2_1 23 rfl rfl)
theorem dJ2_lastIndexOf_2_47 : decode cJ2_lastIndexOf_2 47 = .ok (.istore_n 3, 1) := dk_62 (dk_at dksJ2_lastIndexOf_2_2 0 rfl rfl)
theorem dJ2_lastIndexOf_2_48 : decode cJ2_lastIndexOf_2 48 = .ok (.iload_n 3, 1) := dk_29 (dk_at dksJ2_lastIndexOf_2_2 1 rfl rfl)
theorem dJ2_lastIndexOf_2_49 : decode cJ2_lastIndexOf_2 49 = .ok (.ifCond .lt 20, 3) := dk_155 0 20 (dk_at dksJ2_lastIndexOf_2_2 2 rfl rfl)
theorem dJ2_lastIndexOf_2_52 : decode cJ2_lastIndexOf_2 52 = .ok (.aload_n 0, 1) := dk_42 (dk_at dksJ2_lastIndexOf_2_2 5 rfl rfl)
theorem dJ2_lastIndexOf_2_53 : decode cJ2_lastIndexOf_2 53 = .ok (.getfield 30, 3) := dk_180 0 30 (dk_at dksJ2_lastIndexOf_2_2 6 rfl rfl)
theorem dJ2_lastIndexOf_2_56 : decode cJ2_lastIndexOf_2 56 = .ok (.iload_n 3, 1) := dk_29 (dk_at dksJ2_lastIndexOf_2_2 9 rfl rfl)
theorem dJ2_lastIndexOf_2_57 : decode cJ2_lastIndexOf_2 57 = .ok (.aaload, 1) := dk_50 (dk_at dksJ2_lastIndexOf_2_2 10 rfl rfl)
theorem dJ2_lastIndexOf_2_58 : decode cJ2_lastIndexOf_2 58 = .ok (.ifnonnull 5, 3) := dk_199 0 5 (dk_at dksJ2_lastIndexOf_2_2 11 rfl rfl)
theorem dJ2_lastIndexOf_2_61 : decode cJ2_lastIndexOf_2 61 = .ok (.iload_n 3, 1) := dk_29 (dk_at dksJ2_lastIndexOf_2_2 14 rfl rfl)
theorem dJ2_lastIndexOf_2_62 : decode cJ2_lastIndexOf_2 62 = .ok (.ireturn, 1) := dk_172 (dk_at dksJ2_lastIndexOf_2_2 15 rfl rfl)
theorem dJ2_lastIndexOf_2_63 : decode cJ2_lastIndexOf_2 63 = .ok (.iinc 3 (-1), 3) := dk_132 3 255 (dk_at dksJ2_lastIndexOf_2_2 16 rfl rfl)
theorem dJ2_lastIndexOf_2_66 : decode cJ2_lastIndexOf_2 66 = .ok (.goto (-18), 3) := dk_167 255 238 (dk_at dksJ2_lastIndexOf_2_2 19 rfl rfl)
theorem dJ2_lastIndexOf_2_69 : decode cJ2_lastIndexOf_2 69 = .ok (.goto 30, 3) := dk_167 0 30 (dk_at dksJ2_lastIndexOf_2_3 0 rfl rfl)
theorem dJ2_lastIndexOf_2_72 : decode cJ2_lastIndexOf_2 72 = .ok (.iload_n 2, 1) := dk_28 (dk_at dksJ2_lastIndexOf_2_3 3 rfl rfl)
theorem dJ2_lastIndexOf_2_73 : decode cJ2_lastIndexOf_2 73 = .ok (.istore_n 3, 1) := dk_62 (dk_at dksJ2_lastIndexOf_2_3 4 rfl rfl)
theorem dJ2_lastIndexOf_2_74 : decode cJ2_lastIndexOf_2 74 = .ok (.iload_n 3, 1) := dk_29 (dk_at dksJ2_lastIndexOf_2_3 5 rfl rfl)
theorem dJ2_lastIndexOf_2_75 : decode cJ2_lastIndexOf_2 75 = .ok (.ifCond .lt 24, 3) := dk_155 0 24 (dk_at dksJ2_lastIndexOf_2_3 6 rfl rfl)
theorem dJ2_lastIndexOf_2_78 : decode cJ2_lastIndexOf_2 78 = .ok (.aload_n 1, 1) := dk_43 (dk_at dksJ2_lastIndexOf_2_3 9 rfl rfl)
theorem dJ2_lastIndexOf_2_79 : decode cJ2_lastIndexOf_2 79 = .ok (.aload_n 0, 1) := dk_42 (dk_at dksJ2_lastIndexOf_2_3 10 rfl rfl)
theorem dJ2_lastIndexOf_2_80 : decode cJ2_lastIndexOf_2 80 = .ok (.getfield 30, 3) := dk_180 0 30 (dk_at dksJ2_lastIndexOf_2_3 11 rfl rfl)
theorem dJ2_lastIndexOf_2_83 : decode cJ2_lastIndexOf_2 83 = .ok (.iload_n 3, 1) := dk_29 (dk_at dksJ2_lastIndexOf_2_3 14 rfl rfl)
theorem dJ2_lastIndexOf_2_84 : decode cJ2_lastIndexOf_2 84 = .ok (.aaload, 1) := dk_50 (dk_at dksJ2_lastIndexOf_2_3 15 rfl rfl)
theorem dJ2_lastIndexOf_2_85 : decode cJ2_lastIndexOf_2 85 = .ok (.invokevirtual 99, 3) := dk_182 0 99 (dk_at dksJ2_lastIndexOf_2_3 16 rfl rfl)
theorem dJ2_lastIndexOf_2_88 : decode cJ2_lastIndexOf_2 88 = .ok (.ifCond .eq 5, 3) := dk_153 0 5 (dk_at dksJ2_lastIndexOf_2_3 19 rfl rfl)
theorem dJ2_lastIndexOf_2_91 : decode cJ2_lastIndexOf_2 91 = .ok (.iload_n 3, 1) := dk_29 (dk_at dksJ2_lastIndexOf_2_3 22 rfl rfl)
theorem dJ2_lastIndexOf_2_92 : decode cJ2_lastIndexOf_2 92 = .ok (.ireturn, 1) := dk_172 (dk_at dksJ2_lastIndexOf_2_3 23 rfl rfl)
theorem dJ2_lastIndexOf_2_93 : decode cJ2_lastIndexOf_2 93 = .ok (.iinc 3 (-1), 3) := dk_132 3 255 (dk_at dksJ2_lastIndexOf_2_4 0 rfl rfl)
theorem dJ2_lastIndexOf_2_96 : decode cJ2_lastIndexOf_2 96 = .ok (.goto (-22), 3) := dk_167 255 234 (dk_at dksJ2_lastIndexOf_2_4 3 rfl rfl)
theorem dJ2_lastIndexOf_2_99 : decode cJ2_lastIndexOf_2 99 = .ok (.iconst (-1), 1) := dk_2 (dk_at dksJ2_lastIndexOf_2_4 6 rfl rfl)
theorem dJ2_lastIndexOf_2_100 : decode cJ2_lastIndexOf_2 100 = .ok (.ireturn, 1) := dk_172 (dk_at dksJ2_lastIndexOf_2_4 7 rfl rfl)
abbrev cJ2_insertElementAt : ByteArray := prog_33_method_25_code
def yJ2_insertElementAt : MethodName := ⟨RJ2, "insertElementAt", "(Ljava/lang/Object;I)V"⟩
def dkwJ2_insertElementAt_4 : List UInt8 := [42, 29, 4, 96, 181, 0, 52, 177]
abbrev dktJ2_insertElementAt_4 : List UInt8 := dkwJ2_insertElementAt_4 ++ []
def dkwJ2_insertElementAt_3 : List UInt8 := [182, 0, 123, 58, 4, 25, 4, 28, 25, 4, 28, 4, 96, 29, 28, 100, 184, 0, 68, 25, 4, 28, 43, 83]
abbrev dktJ2_insertElementAt_3 : List UInt8 := dkwJ2_insertElementAt_3 ++ dktJ2_insertElementAt_4
def dkwJ2_insertElementAt_2 : List UInt8 := [4, 96, 181, 0, 74, 42, 180, 0, 52, 62, 42, 180, 0, 30, 58, 4, 29, 25, 4, 190, 160, 0, 9, 42]
abbrev dktJ2_insertElementAt_2 : List UInt8 := dkwJ2_insertElementAt_2 ++ dktJ2_insertElementAt_3
def dkwJ2_insertElementAt_1 : List UInt8 := [18, 121, 182, 0, 14, 42, 180, 0, 52, 182, 0, 18, 182, 0, 21, 183, 0, 113, 191, 42, 89, 180, 0, 74]
abbrev dktJ2_insertElementAt_1 : List UInt8 := dkwJ2_insertElementAt_1 ++ dktJ2_insertElementAt_2
def dkwJ2_insertElementAt_0 : List UInt8 := [28, 42, 180, 0, 52, 164, 0, 37, 187, 0, 111, 89, 187, 0, 9, 89, 183, 0, 11, 28, 182, 0, 18]
abbrev dktJ2_insertElementAt_0 : List UInt8 := dkwJ2_insertElementAt_0 ++ dktJ2_insertElementAt_1
theorem dksJ2_insertElementAt_0 : cJ2_insertElementAt.data.toList.drop 0 = dktJ2_insertElementAt_0 := by decide +kernel
theorem dksJ2_insertElementAt_1 : cJ2_insertElementAt.data.toList.drop 23 = dktJ2_insertElementAt_1 := dk_seg dksJ2_insertElementAt_0 23 rfl rfl
theorem dksJ2_insertElementAt_2 : cJ2_insertElementAt.data.toList.drop 47 = dktJ2_insertElementAt_2 := dk_seg dksJ2_insertElementAt_1 24 rfl rfl
theorem dksJ2_insertElementAt_3 : cJ2_insertElementAt.data.toList.drop 71 = dktJ2_insertElementAt_3 := dk_seg dksJ2_insertElementAt_2 24 rfl rfl
theorem dksJ2_insertElementAt_4 : cJ2_insertElementAt.data.toList.drop 95 = dktJ2_insertElementAt_4 := dk_seg dksJ2_insertElementAt_3 24 rfl rfl
theorem dJ2_insertElementAt_0 : decode cJ2_insertElementAt 0 = .ok (.iload_n 2, 1) := dk_28 (dk_at dksJ2_insertElementAt_0 0 rfl rfl)
theorem dJ2_insertElementAt_1 : decode cJ2_insertElementAt 1 = .ok (.aload_n 0, 1) := dk_42 (dk_at dksJ2_insertElementAt_0 1 rfl rfl)
theorem dJ2_insertElementAt_2 : decode cJ2_insertElementAt 2 = .ok (.getfield 52, 3) := dk_180 0 52 (dk_at dksJ2_insertElementAt_0 2 rfl rfl)
theorem dJ2_insertElementAt_5 : decode cJ2_insertElementAt 5 = .ok (.if_icmp .le 37, 3) := dk_164 0 37 (dk_at dksJ2_insertElementAt_0 5 rfl rfl)
theorem dJ2_insertElementAt_8 : decode cJ2_insertElementAt 8 = .ok (.new 111, 3) := dk_187 0 111 (dk_at dksJ2_insertElementAt_0 8 rfl rfl)
theorem dJ2_insertElementAt_11 : decode cJ2_insertElementAt 11 = .ok (.dup, 1) := dk_89 (dk_at dksJ2_insertElementAt_0 11 rfl rfl)
theorem dJ2_insertElementAt_12 : decode cJ2_insertElementAt 12 = .ok (.new 9, 3) := dk_187 0 9 (dk_at dksJ2_insertElementAt_0 12 rfl rfl)
theorem dJ2_insertElementAt_15 : decode cJ2_insertElementAt 15 = .ok (.dup, 1) := dk_89 (dk_at dksJ2_insertElementAt_0 15 rfl rfl)
theorem dJ2_insertElementAt_16 : decode cJ2_insertElementAt 16 = .ok (.invokespecial 11, 3) := dk_183 0 11 (dk_at dksJ2_insertElementAt_0 16 rfl rfl)
theorem dJ2_insertElementAt_19 : decode cJ2_insertElementAt 19 = .ok (.iload_n 2, 1) := dk_28 (dk_at dksJ2_insertElementAt_0 19 rfl rfl)
theorem dJ2_insertElementAt_20 : decode cJ2_insertElementAt 20 = .ok (.invokevirtual 18, 3) := dk_182 0 18 (dk_at dksJ2_insertElementAt_0 20 rfl rfl)
theorem dJ2_insertElementAt_23 : decode cJ2_insertElementAt 23 = .ok (.ldc 121, 2) := dk_18 121 (dk_at dksJ2_insertElementAt_1 0 rfl rfl)
theorem dJ2_insertElementAt_25 : decode cJ2_insertElementAt 25 = .ok (.invokevirtual 14, 3) := dk_182 0 14 (dk_at dksJ2_insertElementAt_1 2 rfl rfl)
theorem dJ2_insertElementAt_28 : decode cJ2_insertElementAt 28 = .ok (.aload_n 0, 1) := dk_42 (dk_at dksJ2_insertElementAt_1 5 rfl rfl)
theorem dJ2_insertElementAt_29 : decode cJ2_insertElementAt 29 = .ok (.getfield 52, 3) := dk_180 0 52 (dk_at dksJ2_insertElementAt_1 6 rfl rfl)
theorem dJ2_insertElementAt_32 : decode cJ2_insertElementAt 32 = .ok (.invokevirtual 18, 3) := dk_182 0 18 (dk_at dksJ2_insertElementAt_1 9 rfl rfl)
theorem dJ2_insertElementAt_35 : decode cJ2_insertElementAt 35 = .ok (.invokevirtual 21, 3) := dk_182 0 21 (dk_at dksJ2_insertElementAt_1 12 rfl rfl)
theorem dJ2_insertElementAt_38 : decode cJ2_insertElementAt 38 = .ok (.invokespecial 113, 3) := dk_183 0 113 (dk_at dksJ2_insertElementAt_1 15 rfl rfl)
theorem dJ2_insertElementAt_41 : decode cJ2_insertElementAt 41 = .ok (.athrow, 1) := dk_191 (dk_at dksJ2_insertElementAt_1 18 rfl rfl)
theorem dJ2_insertElementAt_42 : decode cJ2_insertElementAt 42 = .ok (.aload_n 0, 1) := dk_42 (dk_at dksJ2_insertElementAt_1 19 rfl rfl)
theorem dJ2_insertElementAt_43 : decode cJ2_insertElementAt 43 = .ok (.dup, 1) := dk_89 (dk_at dksJ2_insertElementAt_1 20 rfl rfl)
theorem dJ2_insertElementAt_44 : decode cJ2_insertElementAt 44 = .ok (.getfield 74, 3) := dk_180 0 74 (dk_at dksJ2_insertElementAt_1 21 rfl rfl)
theorem dJ2_insertElementAt_47 : decode cJ2_insertElementAt 47 = .ok (.iconst 1, 1) := dk_4 (dk_at dksJ2_insertElementAt_2 0 rfl rfl)
theorem dJ2_insertElementAt_48 : decode cJ2_insertElementAt 48 = .ok (.iadd, 1) := dk_96 (dk_at dksJ2_insertElementAt_2 1 rfl rfl)
theorem dJ2_insertElementAt_49 : decode cJ2_insertElementAt 49 = .ok (.putfield 74, 3) := dk_181 0 74 (dk_at dksJ2_insertElementAt_2 2 rfl rfl)
theorem dJ2_insertElementAt_52 : decode cJ2_insertElementAt 52 = .ok (.aload_n 0, 1) := dk_42 (dk_at dksJ2_insertElementAt_2 5 rfl rfl)
theorem dJ2_insertElementAt_53 : decode cJ2_insertElementAt 53 = .ok (.getfield 52, 3) := dk_180 0 52 (dk_at dksJ2_insertElementAt_2 6 rfl rfl)
theorem dJ2_insertElementAt_56 : decode cJ2_insertElementAt 56 = .ok (.istore_n 3, 1) := dk_62 (dk_at dksJ2_insertElementAt_2 9 rfl rfl)
theorem dJ2_insertElementAt_57 : decode cJ2_insertElementAt 57 = .ok (.aload_n 0, 1) := dk_42 (dk_at dksJ2_insertElementAt_2 10 rfl rfl)
theorem dJ2_insertElementAt_58 : decode cJ2_insertElementAt 58 = .ok (.getfield 30, 3) := dk_180 0 30 (dk_at dksJ2_insertElementAt_2 11 rfl rfl)
theorem dJ2_insertElementAt_61 : decode cJ2_insertElementAt 61 = .ok (.astore 4, 2) := dk_58 4 (dk_at dksJ2_insertElementAt_2 14 rfl rfl)
theorem dJ2_insertElementAt_63 : decode cJ2_insertElementAt 63 = .ok (.iload_n 3, 1) := dk_29 (dk_at dksJ2_insertElementAt_2 16 rfl rfl)
theorem dJ2_insertElementAt_64 : decode cJ2_insertElementAt 64 = .ok (.aload 4, 2) := dk_25 4 (dk_at dksJ2_insertElementAt_2 17 rfl rfl)
theorem dJ2_insertElementAt_66 : decode cJ2_insertElementAt 66 = .ok (.arraylength, 1) := dk_190 (dk_at dksJ2_insertElementAt_2 19 rfl rfl)
theorem dJ2_insertElementAt_67 : decode cJ2_insertElementAt 67 = .ok (.if_icmp .ne 9, 3) := dk_160 0 9 (dk_at dksJ2_insertElementAt_2 20 rfl rfl)
theorem dJ2_insertElementAt_70 : decode cJ2_insertElementAt 70 = .ok (.aload_n 0, 1) := dk_42 (dk_at dksJ2_insertElementAt_2 23 rfl rfl)
theorem dJ2_insertElementAt_71 : decode cJ2_insertElementAt 71 = .ok (.invokevirtual 123, 3) := dk_182 0 123 (dk_at dksJ2_insertElementAt_3 0 rfl rfl)
theorem dJ2_insertElementAt_74 : decode cJ2_insertElementAt 74 = .ok (.astore 4, 2) := dk_58 4 (dk_at dksJ2_insertElementAt_3 3 rfl rfl)
theorem dJ2_insertElementAt_76 : decode cJ2_insertElementAt 76 = .ok (.aload 4, 2) := dk_25 4 (dk_at dksJ2_insertElementAt_3 5 rfl rfl)
theorem dJ2_insertElementAt_78 : decode cJ2_insertElementAt 78 = .ok (.iload_n 2, 1) := dk_28 (dk_at dksJ2_insertElementAt_3 7 rfl rfl)
theorem dJ2_insertElementAt_79 : decode cJ2_insertElementAt 79 = .ok (.aload 4, 2) := dk_25 4 (dk_at dksJ2_insertElementAt_3 8 rfl rfl)
theorem dJ2_insertElementAt_81 : decode cJ2_insertElementAt 81 = .ok (.iload_n 2, 1) := dk_28 (dk_at dksJ2_insertElementAt_3 10 rfl rfl)
theorem dJ2_insertElementAt_82 : decode cJ2_insertElementAt 82 = .ok (.iconst 1, 1) := dk_4 (dk_at dksJ2_insertElementAt_3 11 rfl rfl)
theorem dJ2_insertElementAt_83 : decode cJ2_insertElementAt 83 = .ok (.iadd, 1) := dk_96 (dk_at dksJ2_insertElementAt_3 12 rfl rfl)
theorem dJ2_insertElementAt_84 : decode cJ2_insertElementAt 84 = .ok (.iload_n 3, 1) := dk_29 (dk_at dksJ2_insertElementAt_3 13 rfl rfl)
theorem dJ2_insertElementAt_85 : decode cJ2_insertElementAt 85 = .ok (.iload_n 2, 1) := dk_28 (dk_at dksJ2_insertElementAt_3 14 rfl rfl)
theorem dJ2_insertElementAt_86 : decode cJ2_insertElementAt 86 = .ok (.isub, 1) := dk_100 (dk_at dksJ2_insertElementAt_3 15 rfl rfl)
theorem dJ2_insertElementAt_87 : decode cJ2_insertElementAt 87 = .ok (.invokestatic 68, 3) := dk_184 0 68 (dk_at dksJ2_insertElementAt_3 16 rfl rfl)
theorem dJ2_insertElementAt_90 : decode cJ2_insertElementAt 90 = .ok (.aload 4, 2) := dk_25 4 (dk_at dksJ2_insertElementAt_3 19 rfl rfl)
theorem dJ2_insertElementAt_92 : decode cJ2_insertElementAt 92 = .ok (.iload_n 2, 1) := dk_28 (dk_at dksJ2_insertElementAt_3 21 rfl rfl)
theorem dJ2_insertElementAt_93 : decode cJ2_insertElementAt 93 = .ok (.aload_n 1, 1) := dk_43 (dk_at dksJ2_insertElementAt_3 22 rfl rfl)
theorem dJ2_insertElementAt_94 : decode cJ2_insertElementAt 94 = .ok (.aastore, 1) := dk_83 (dk_at dksJ2_insertElementAt_3 23 rfl rfl)
theorem dJ2_insertElementAt_95 : decode cJ2_insertElementAt 95 = .ok (.aload_n 0, 1) := dk_42 (dk_at dksJ2_insertElementAt_4 0 rfl rfl)
theorem dJ2_insertElementAt_96 : decode cJ2_insertElementAt 96 = .ok (.iload_n 3, 1) := dk_29 (dk_at dksJ2_insertElementAt_4 1 rfl rfl)
theorem dJ2_insertElementAt_97 : decode cJ2_insertElementAt 97 = .ok (.iconst 1, 1) := dk_4 (dk_at dksJ2_insertElementAt_4 2 rfl rfl)
theorem dJ2_insertElementAt_98 : decode cJ2_insertElementAt 98 = .ok (.iadd, 1) := dk_96 (dk_at dksJ2_insertElementAt_4 3 rfl rfl)
theorem dJ2_insertElementAt_99 : decode cJ2_insertElementAt 99 = .ok (.putfield 52, 3) := dk_181 0 52 (dk_at dksJ2_insertElementAt_4 4 rfl rfl)
theorem dJ2_insertElementAt_102 : decode cJ2_insertElementAt 102 = .ok (.return_, 1) := dk_177 (dk_at dksJ2_insertElementAt_4 7 rfl rfl)
abbrev cJ2_removeElement : ByteArray := prog_33_method_27_code
def yJ2_removeElement : MethodName := ⟨RJ2, "removeElement", "(Ljava/lang/Object;)Z"⟩
def dkwJ2_removeElement_1 : List UInt8 := [182, 0, 132, 4, 172, 3, 172]
abbrev dktJ2_removeElement_1 : List UInt8 := dkwJ2_removeElement_1 ++ []
def dkwJ2_removeElement_0 : List UInt8 := [42, 89, 180, 0, 74, 4, 96, 181, 0, 74, 42, 43, 182, 0, 129, 61, 28, 155, 0, 10, 42, 28]
abbrev dktJ2_removeElement_0 : List UInt8 := dkwJ2_removeElement_0 ++ dktJ2_removeElement_1
theorem dksJ2_removeElement_0 : cJ2_removeElement.data.toList.drop 0 = dktJ2_removeElement_0 := by decide +kernel
theorem dksJ2_removeElement_1 : cJ2_removeElement.data.toList.drop 22 = dktJ2_removeElement_1 := dk_seg dksJ2_removeElement_0 22 rfl rfl
theorem dJ2_removeElement_0 : decode cJ2_removeElement 0 = .ok (.aload_n 0, 1) := dk_42 (dk_at dksJ2_removeElement_0 0 rfl rfl)
theorem dJ2_removeElement_1 : decode cJ2_removeElement 1 = .ok (.dup, 1) := dk_89 (dk_at dksJ2_removeElement_0 1 rfl rfl)
theorem dJ2_removeElement_2 : decode cJ2_removeElement 2 = .ok (.getfield 74, 3) := dk_180 0 74 (dk_at dksJ2_removeElement_0 2 rfl rfl)
theorem dJ2_removeElement_5 : decode cJ2_removeElement 5 = .ok (.iconst 1, 1) := dk_4 (dk_at dksJ2_removeElement_0 5 rfl rfl)
theorem dJ2_removeElement_6 : decode cJ2_removeElement 6 = .ok (.iadd, 1) := dk_96 (dk_at dksJ2_removeElement_0 6 rfl rfl)
theorem dJ2_removeElement_7 : decode cJ2_removeElement 7 = .ok (.putfield 74, 3) := dk_181 0 74 (dk_at dksJ2_removeElement_0 7 rfl rfl)
theorem dJ2_removeElement_10 : decode cJ2_removeElement 10 = .ok (.aload_n 0, 1) := dk_42 (dk_at dksJ2_removeElement_0 10 rfl rfl)
theorem dJ2_removeElement_11 : decode cJ2_removeElement 11 = .ok (.aload_n 1, 1) := dk_43 (dk_at dksJ2_removeElement_0 11 rfl rfl)
theorem dJ2_removeElement_12 : decode cJ2_removeElement 12 = .ok (.invokevirtual 129, 3) := dk_182 0 129 (dk_at dksJ2_removeElement_0 12 rfl rfl)
theorem dJ2_removeElement_15 : decode cJ2_removeElement 15 = .ok (.istore_n 2, 1) := dk_61 (dk_at dksJ2_removeElement_0 15 rfl rfl)
theorem dJ2_removeElement_16 : decode cJ2_removeElement 16 = .ok (.iload_n 2, 1) := dk_28 (dk_at dksJ2_removeElement_0 16 rfl rfl)
theorem dJ2_removeElement_17 : decode cJ2_removeElement 17 = .ok (.ifCond .lt 10, 3) := dk_155 0 10 (dk_at dksJ2_removeElement_0 17 rfl rfl)
theorem dJ2_removeElement_20 : decode cJ2_removeElement 20 = .ok (.aload_n 0, 1) := dk_42 (dk_at dksJ2_removeElement_0 20 rfl rfl)
theorem dJ2_removeElement_21 : decode cJ2_removeElement 21 = .ok (.iload_n 2, 1) := dk_28 (dk_at dksJ2_removeElement_0 21 rfl rfl)
theorem dJ2_removeElement_22 : decode cJ2_removeElement 22 = .ok (.invokevirtual 132, 3) := dk_182 0 132 (dk_at dksJ2_removeElement_1 0 rfl rfl)
theorem dJ2_removeElement_25 : decode cJ2_removeElement 25 = .ok (.iconst 1, 1) := dk_4 (dk_at dksJ2_removeElement_1 3 rfl rfl)
theorem dJ2_removeElement_26 : decode cJ2_removeElement 26 = .ok (.ireturn, 1) := dk_172 (dk_at dksJ2_removeElement_1 4 rfl rfl)
theorem dJ2_removeElement_27 : decode cJ2_removeElement 27 = .ok (.iconst 0, 1) := dk_3 (dk_at dksJ2_removeElement_1 5 rfl rfl)
theorem dJ2_removeElement_28 : decode cJ2_removeElement 28 = .ok (.ireturn, 1) := dk_172 (dk_at dksJ2_removeElement_1 6 rfl rfl)
abbrev cJ2_indexOf_2 : ByteArray := prog_33_method_17_code
def yJ2_indexOf_2 : MethodName := ⟨RJ2, "indexOf", "(Ljava/lang/Object;I)I"⟩
def dkwJ2_indexOf_2_2 : List UInt8 := [180, 0, 30, 29, 50, 182, 0, 99, 153, 0, 5, 29, 172, 132, 3, 1, 167, 255, 230, 2, 172]
abbrev dktJ2_indexOf_2_2 : List UInt8 := dkwJ2_indexOf_2_2 ++ []
def dkwJ2_indexOf_2_1 : List UInt8 := [172, 132, 3, 1, 167, 255, 234, 167, 0, 34, 28, 62, 29, 42, 180, 0, 52, 162, 0, 24, 43, 42]
abbrev dktJ2_indexOf_2_1 : List UInt8 := dkwJ2_indexOf_2_1 ++ dktJ2_indexOf_2_2
def dkwJ2_indexOf_2_0 : List UInt8 := [43, 199, 0, 33, 28, 62, 29, 42, 180, 0, 52, 162, 0, 20, 42, 180, 0, 30, 29, 50, 199, 0, 5, 29]
abbrev dktJ2_indexOf_2_0 : List UInt8 := dkwJ2_indexOf_2_0 ++ dktJ2_indexOf_2_1
theorem dksJ2_indexOf_2_0 : cJ2_indexOf_2.data.toList.drop 0 = dktJ2_indexOf_2_0 := by decide +kernel
theorem dksJ2_indexOf_2_1 : cJ2_indexOf_2.data.toList.drop 24 = dktJ2_indexOf_2_1 := dk_seg dksJ2_indexOf_2_0 24 rfl rfl
theorem dksJ2_indexOf_2_2 : cJ2_indexOf_2.data.toList.drop 46 = dktJ2_indexOf_2_2 := dk_seg dksJ2_indexOf_2_1 22 rfl rfl
theorem dJ2_indexOf_2_0 : decode cJ2_indexOf_2 0 = .ok (.aload_n 1, 1) := dk_43 (dk_at dksJ2_indexOf_2_0 0 rfl rfl)
theorem dJ2_indexOf_2_1 : decode cJ2_indexOf_2 1 = .ok (.ifnonnull 33, 3) := dk_199 0 33 (dk_at dksJ2_indexOf_2_0 1 rfl rfl)
theorem dJ2_indexOf_2_4 : decode cJ2_indexOf_2 4 = .ok (.iload_n 2, 1) := dk_28 (dk_at dksJ2_indexOf_2_0 4 rfl rfl)
theorem dJ2_indexOf_2_5 : decode cJ2_indexOf_2 5 = .ok (.istore_n 3, 1) := dk_62 (dk_at dksJ2_indexOf_2_0 5 rfl rfl)
theorem dJ2_indexOf_2_6 : decode cJ2_indexOf_2 6 = .ok (.iload_n 3, 1) := dk_29 (dk_at dksJ2_indexOf_2_0 6 rfl rfl)
theorem dJ2_indexOf_2_7 : decode cJ2_indexOf_2 7 = .ok (.aload_n 0, 1) := dk_42 (dk_at dksJ2_indexOf_2_0 7 rfl rfl)
theorem dJ2_indexOf_2_8 : decode cJ2_indexOf_2 8 = .ok (.getfield 52, 3) := dk_180 0 52 (dk_at dksJ2_indexOf_2_0 8 rfl rfl)
theorem dJ2_indexOf_2_11 : decode cJ2_indexOf_2 11 = .ok (.if_icmp .ge 20, 3) := dk_162 0 20 (dk_at dksJ2_indexOf_2_0 11 rfl rfl)
theorem dJ2_indexOf_2_14 : decode cJ2_indexOf_2 14 = .ok (.aload_n 0, 1) := dk_42 (dk_at dksJ2_indexOf_2_0 14 rfl rfl)
theorem dJ2_indexOf_2_15 : decode cJ2_indexOf_2 15 = .ok (.getfield 30, 3) := dk_180 0 30 (dk_at dksJ2_indexOf_2_0 15 rfl rfl)
theorem dJ2_indexOf_2_18 : decode cJ2_indexOf_2 18 = .ok (.iload_n 3, 1) := dk_29 (dk_at dksJ2_indexOf_2_0 18 rfl rfl)
theorem dJ2_indexOf_2_19 : decode cJ2_indexOf_2 19 = .ok (.aaload, 1) := dk_50 (dk_at dksJ2_indexOf_2_0 19 rfl rfl)
theorem dJ2_indexOf_2_20 : decode cJ2_indexOf_2 20 = .ok (.ifnonnull 5, 3) := dk_199 0 5 (dk_at dksJ2_indexOf_2_0 20 rfl rfl)
theorem dJ2_indexOf_2_23 : decode cJ2_indexOf_2 23 = .ok (.iload_n 3, 1) := dk_29 (dk_at dksJ2_indexOf_2_0 23 rfl rfl)
theorem dJ2_indexOf_2_24 : decode cJ2_indexOf_2 24 = .ok (.ireturn, 1) := dk_172 (dk_at dksJ2_indexOf_2_1 0 rfl rfl)
theorem dJ2_indexOf_2_25 : decode cJ2_indexOf_2 25 = .ok (.iinc 3 1, 3) := dk_132 3 1 (dk_at dksJ2_indexOf_2_1 1 rfl rfl)
theorem dJ2_indexOf_2_28 : decode cJ2_indexOf_2 28 = .ok (.goto (-22), 3) := dk_167 255 234 (dk_at dksJ2_indexOf_2_1 4 rfl rfl)
theorem dJ2_indexOf_2_31 : decode cJ2_indexOf_2 31 = .ok (.goto 34, 3) := dk_167 0 34 (dk_at dksJ2_indexOf_2_1 7 rfl rfl)
theorem dJ2_indexOf_2_34 : decode cJ2_indexOf_2 34 = .ok (.iload_n 2, 1) := dk_28 (dk_at dksJ2_indexOf_2_1 10 rfl rfl)
theorem dJ2_indexOf_2_35 : decode cJ2_indexOf_2 35 = .ok (.istore_n 3, 1) := dk_62 (dk_at dksJ2_indexOf_2_1 11 rfl rfl)
theorem dJ2_indexOf_2_36 : decode cJ2_indexOf_2 36 = .ok (.iload_n 3, 1) := dk_29 (dk_at dksJ2_indexOf_2_1 12 rfl rfl)
theorem dJ2_indexOf_2_37 : decode cJ2_indexOf_2 37 = .ok (.aload_n 0, 1) := dk_42 (dk_at dksJ2_indexOf_2_1 13 rfl rfl)
theorem dJ2_indexOf_2_38 : decode cJ2_indexOf_2 38 = .ok (.getfield 52, 3) := dk_180 0 52 (dk_at dksJ2_indexOf_2_1 14 rfl rfl)
theorem dJ2_indexOf_2_41 : decode cJ2_indexOf_2 41 = .ok (.if_icmp .ge 24, 3) := dk_162 0 24 (dk_at dksJ2_indexOf_2_1 17 rfl rfl)
theorem dJ2_indexOf_2_44 : decode cJ2_indexOf_2 44 = .ok (.aload_n 1, 1) := dk_43 (dk_at dksJ2_indexOf_2_1 20 rfl rfl)
theorem dJ2_indexOf_2_45 : decode cJ2_indexOf_2 45 = .ok (.aload_n 0, 1) := dk_42 (dk_at dksJ2_indexOf_2_1 21 rfl rfl)
theorem dJ2_indexOf_2_46 : decode cJ2_indexOf_2 46 = .ok (.getfield 30, 3) := dk_180 0 30 (dk_at dksJ2_indexOf_2_2 0 rfl rfl)
theorem dJ2_indexOf_2_49 : decode cJ2_indexOf_2 49 = .ok (.iload_n 3, 1) := dk_29 (dk_at dksJ2_indexOf_2_2 3 rfl rfl)
theorem dJ2_indexOf_2_50 : decode cJ2_indexOf_2 50 = .ok (.aaload, 1) := dk_50 (dk_at dksJ2_indexOf_2_2 4 rfl rfl)
theorem dJ2_indexOf_2_51 : decode cJ2_indexOf_2 51 = .ok (.invokevirtual 99, 3) := dk_182 0 99 (dk_at dksJ2_indexOf_2_2 5 rfl rfl)
theorem dJ2_indexOf_2_54 : decode cJ2_indexOf_2 54 = .ok (.ifCond .eq 5, 3) := dk_153 0 5 (dk_at dksJ2_indexOf_2_2 8 rfl rfl)
theorem dJ2_indexOf_2_57 : decode cJ2_indexOf_2 57 = .ok (.iload_n 3, 1) := dk_29 (dk_at dksJ2_indexOf_2_2 11 rfl rfl)
theorem dJ2_indexOf_2_58 : decode cJ2_indexOf_2 58 = .ok (.ireturn, 1) := dk_172 (dk_at dksJ2_indexOf_2_2 12 rfl rfl)
theorem dJ2_indexOf_2_59 : decode cJ2_indexOf_2 59 = .ok (.iinc 3 1, 3) := dk_132 3 1 (dk_at dksJ2_indexOf_2_2 13 rfl rfl)
theorem dJ2_indexOf_2_62 : decode cJ2_indexOf_2 62 = .ok (.goto (-26), 3) := dk_167 255 230 (dk_at dksJ2_indexOf_2_2 16 rfl rfl)
theorem dJ2_indexOf_2_65 : decode cJ2_indexOf_2 65 = .ok (.iconst (-1), 1) := dk_2 (dk_at dksJ2_indexOf_2_2 19 rfl rfl)
theorem dJ2_indexOf_2_66 : decode cJ2_indexOf_2 66 = .ok (.ireturn, 1) := dk_172 (dk_at dksJ2_indexOf_2_2 20 rfl rfl)
abbrev cJ3_pop : ByteArray := prog_32_method_3_code
def yJ3_pop : MethodName := ⟨RJ3, "pop", "()Ljava/lang/Object;"⟩
def dkwJ3_pop_0 : List UInt8 := [42, 182, 0, 13, 61, 42, 182, 0, 17, 76, 42, 28, 4, 100, 182, 0, 21, 43, 176]
abbrev dktJ3_pop_0 : List UInt8 := dkwJ3_pop_0 ++ []
theorem dksJ3_pop_0 : cJ3_pop.data.toList.drop 0 = dktJ3_pop_0 := by decide +kernel
theorem dJ3_pop_0 : decode cJ3_pop 0 = .ok (.aload_n 0, 1) := dk_42 (dk_at dksJ3_pop_0 0 rfl rfl)
theorem dJ3_pop_1 : decode cJ3_pop 1 = .ok (.invokevirtual 13, 3) := dk_182 0 13 (dk_at dksJ3_pop_0 1 rfl rfl)
theorem dJ3_pop_4 : decode cJ3_pop 4 = .ok (.istore_n 2, 1) := dk_61 (dk_at dksJ3_pop_0 4 rfl rfl)
theorem dJ3_pop_5 : decode cJ3_pop 5 = .ok (.aload_n 0, 1) := dk_42 (dk_at dksJ3_pop_0 5 rfl rfl)
theorem dJ3_pop_6 : decode cJ3_pop 6 = .ok (.invokevirtual 17, 3) := dk_182 0 17 (dk_at dksJ3_pop_0 6 rfl rfl)
theorem dJ3_pop_9 : decode cJ3_pop 9 = .ok (.astore_n 1, 1) := dk_76 (dk_at dksJ3_pop_0 9 rfl rfl)
theorem dJ3_pop_10 : decode cJ3_pop 10 = .ok (.aload_n 0, 1) := dk_42 (dk_at dksJ3_pop_0 10 rfl rfl)
theorem dJ3_pop_11 : decode cJ3_pop 11 = .ok (.iload_n 2, 1) := dk_28 (dk_at dksJ3_pop_0 11 rfl rfl)
theorem dJ3_pop_12 : decode cJ3_pop 12 = .ok (.iconst 1, 1) := dk_4 (dk_at dksJ3_pop_0 12 rfl rfl)
theorem dJ3_pop_13 : decode cJ3_pop 13 = .ok (.isub, 1) := dk_100 (dk_at dksJ3_pop_0 13 rfl rfl)
theorem dJ3_pop_14 : decode cJ3_pop 14 = .ok (.invokevirtual 21, 3) := dk_182 0 21 (dk_at dksJ3_pop_0 14 rfl rfl)
theorem dJ3_pop_17 : decode cJ3_pop 17 = .ok (.aload_n 1, 1) := dk_43 (dk_at dksJ3_pop_0 17 rfl rfl)
theorem dJ3_pop_18 : decode cJ3_pop 18 = .ok (.areturn, 1) := dk_176 (dk_at dksJ3_pop_0 18 rfl rfl)
abbrev cJ3_peek : ByteArray := prog_32_method_4_code
def yJ3_peek : MethodName := ⟨RJ3, "peek", "()Ljava/lang/Object;"⟩
def dkwJ3_peek_1 : List UInt8 := [176]
abbrev dktJ3_peek_1 : List UInt8 := dkwJ3_peek_1 ++ []
def dkwJ3_peek_0 : List UInt8 := [42, 182, 0, 13, 60, 27, 154, 0, 11, 187, 0, 25, 89, 183, 0, 27, 191, 42, 27, 4, 100, 182, 0, 28]
abbrev dktJ3_peek_0 : List UInt8 := dkwJ3_peek_0 ++ dktJ3_peek_1
theorem dksJ3_peek_0 : cJ3_peek.data.toList.drop 0 = dktJ3_peek_0 := by decide +kernel
theorem dksJ3_peek_1 : cJ3_peek.data.toList.drop 24 = dktJ3_peek_1 := dk_seg dksJ3_peek_0 24 rfl rfl
theorem dJ3_peek_0 : decode cJ3_peek 0 = .ok (.aload_n 0, 1) := dk_42 (dk_at dksJ3_peek_0 0 rfl rfl)
theorem dJ3_peek_1 : decode cJ3_peek 1 = .ok (.invokevirtual 13, 3) := dk_182 0 13 (dk_at dksJ3_peek_0 1 rfl rfl)
theorem dJ3_peek_4 : decode cJ3_peek 4 = .ok (.istore_n 1, 1) := dk_60 (dk_at dksJ3_peek_0 4 rfl rfl)
theorem dJ3_peek_5 : decode cJ3_peek 5 = .ok (.iload_n 1, 1) := dk_27 (dk_at dksJ3_peek_0 5 rfl rfl)
theorem dJ3_peek_6 : decode cJ3_peek 6 = .ok (.ifCond .ne 11, 3) := dk_154 0 11 (dk_at dksJ3_peek_0 6 rfl rfl)
theorem dJ3_peek_9 : decode cJ3_peek 9 = .ok (.new 25, 3) := dk_187 0 25 (dk_at dksJ3_peek_0 9 rfl rfl)
theorem dJ3_peek_12 : decode cJ3_peek 12 = .ok (.dup, 1) := dk_89 (dk_at dksJ3_peek_0 12 rfl rfl)
theorem dJ3_peek_13 : decode cJ3_peek 13 = .ok (.invokespecial 27, 3) := dk_183 0 27 (dk_at dksJ3_peek_0 13 rfl rfl)
theorem dJ3_peek_16 : decode cJ3_peek 16 = .ok (.athrow, 1) := dk_191 (dk_at dksJ3_peek_0 16 rfl rfl)
theorem dJ3_peek_17 : decode cJ3_peek 17 = .ok (.aload_n 0, 1) := dk_42 (dk_at dksJ3_peek_0 17 rfl rfl)
theorem dJ3_peek_18 : decode cJ3_peek 18 = .ok (.iload_n 1, 1) := dk_27 (dk_at dksJ3_peek_0 18 rfl rfl)
theorem dJ3_peek_19 : decode cJ3_peek 19 = .ok (.iconst 1, 1) := dk_4 (dk_at dksJ3_peek_0 19 rfl rfl)
theorem dJ3_peek_20 : decode cJ3_peek 20 = .ok (.isub, 1) := dk_100 (dk_at dksJ3_peek_0 20 rfl rfl)
theorem dJ3_peek_21 : decode cJ3_peek 21 = .ok (.invokevirtual 28, 3) := dk_182 0 28 (dk_at dksJ3_peek_0 21 rfl rfl)
theorem dJ3_peek_24 : decode cJ3_peek 24 = .ok (.areturn, 1) := dk_176 (dk_at dksJ3_peek_1 0 rfl rfl)
abbrev cJ3_search : ByteArray := prog_32_method_6_code
def yJ3_search : MethodName := ⟨RJ3, "search", "(Ljava/lang/Object;)I"⟩
def dkwJ3_search_0 : List UInt8 := [42, 43, 182, 0, 32, 61, 28, 155, 0, 10, 42, 182, 0, 13, 28, 100, 172, 2, 172]
abbrev dktJ3_search_0 : List UInt8 := dkwJ3_search_0 ++ []
theorem dksJ3_search_0 : cJ3_search.data.toList.drop 0 = dktJ3_search_0 := by decide +kernel
theorem dJ3_search_0 : decode cJ3_search 0 = .ok (.aload_n 0, 1) := dk_42 (dk_at dksJ3_search_0 0 rfl rfl)
theorem dJ3_search_1 : decode cJ3_search 1 = .ok (.aload_n 1, 1) := dk_43 (dk_at dksJ3_search_0 1 rfl rfl)
theorem dJ3_search_2 : decode cJ3_search 2 = .ok (.invokevirtual 32, 3) := dk_182 0 32 (dk_at dksJ3_search_0 2 rfl rfl)
theorem dJ3_search_5 : decode cJ3_search 5 = .ok (.istore_n 2, 1) := dk_61 (dk_at dksJ3_search_0 5 rfl rfl)
theorem dJ3_search_6 : decode cJ3_search 6 = .ok (.iload_n 2, 1) := dk_28 (dk_at dksJ3_search_0 6 rfl rfl)
theorem dJ3_search_7 : decode cJ3_search 7 = .ok (.ifCond .lt 10, 3) := dk_155 0 10 (dk_at dksJ3_search_0 7 rfl rfl)
theorem dJ3_search_10 : decode cJ3_search 10 = .ok (.aload_n 0, 1) := dk_42 (dk_at dksJ3_search_0 10 rfl rfl)
theorem dJ3_search_11 : decode cJ3_search 11 = .ok (.invokevirtual 13, 3) := dk_182 0 13 (dk_at dksJ3_search_0 11 rfl rfl)
theorem dJ3_search_14 : decode cJ3_search 14 = .ok (.iload_n 2, 1) := dk_28 (dk_at dksJ3_search_0 14 rfl rfl)
theorem dJ3_search_15 : decode cJ3_search 15 = .ok (.isub, 1) := dk_100 (dk_at dksJ3_search_0 15 rfl rfl)
theorem dJ3_search_16 : decode cJ3_search 16 = .ok (.ireturn, 1) := dk_172 (dk_at dksJ3_search_0 16 rfl rfl)
theorem dJ3_search_17 : decode cJ3_search 17 = .ok (.iconst (-1), 1) := dk_2 (dk_at dksJ3_search_0 17 rfl rfl)
theorem dJ3_search_18 : decode cJ3_search 18 = .ok (.ireturn, 1) := dk_172 (dk_at dksJ3_search_0 18 rfl rfl)
abbrev cJ5_put : ByteArray := prog_23_method_16_code
def yJ5_put : MethodName := ⟨RJ5, "put", "(Ljava/lang/Object;Ljava/lang/Object;)Ljava/lang/Object;"⟩
def dkwJ5_put_4 : List UInt8 := [42, 21, 4, 43, 44, 21, 5, 182, 0, 129, 1, 176]
abbrev dktJ5_put_4 : List UInt8 := dkwJ5_put_4 ++ []
def dkwJ5_put_3 : List UInt8 := [180, 0, 95, 58, 7, 25, 6, 44, 181, 0, 95, 25, 7, 176, 25, 6, 180, 0, 105, 58, 6, 167, 255, 206]
abbrev dktJ5_put_3 : List UInt8 := dkwJ5_put_3 ++ dktJ5_put_4
def dkwJ5_put_2 : List UInt8 := [180, 0, 116, 21, 4, 160, 0, 31, 25, 6, 180, 0, 119, 43, 182, 0, 99, 153, 0, 19, 25, 6]
abbrev dktJ5_put_2 : List UInt8 := dkwJ5_put_2 ++ dktJ5_put_3
def dkwJ5_put_1 : List UInt8 := [21, 4, 18, 115, 126, 45, 190, 112, 54, 5, 45, 21, 5, 50, 58, 6, 25, 6, 198, 0, 51, 25, 6]
abbrev dktJ5_put_1 : List UInt8 := dkwJ5_put_1 ++ dktJ5_put_2
def dkwJ5_put_0 : List UInt8 := [44, 199, 0, 11, 187, 0, 92, 89, 183, 0, 94, 191, 42, 180, 0, 53, 78, 43, 182, 0, 112, 54, 4]
abbrev dktJ5_put_0 : List UInt8 := dkwJ5_put_0 ++ dktJ5_put_1
theorem dksJ5_put_0 : cJ5_put.data.toList.drop 0 = dktJ5_put_0 := by decide +kernel
theorem dksJ5_put_1 : cJ5_put.data.toList.drop 23 = dktJ5_put_1 := dk_seg dksJ5_put_0 23 rfl rfl
theorem dksJ5_put_2 : cJ5_put.data.toList.drop 46 = dktJ5_put_2 := dk_seg dksJ5_put_1 23 rfl rfl
theorem dksJ5_put_3 : cJ5_put.data.toList.drop 68 = dktJ5_put_3 := dk_seg dksJ5_put_2 22 rfl rfl
theorem dksJ5_put_4 : cJ5_put.data.toList.drop 92 = dktJ5_put_4 := dk_seg dksJ5_put_3 24 rfl rfl
theorem dJ5_put_0 : decode cJ5_put 0 = .ok (.aload_n 2, 1) := dk_44 (dk_at dksJ5_put_0 0 rfl rfl)
theorem dJ5_put_1 : decode cJ5_put 1 = .ok (.ifnonnull 11, 3) := dk_199 0 11 (dk_at dksJ5_put_0 1 rfl rfl)
theorem dJ5_put_4 : decode cJ5_put 4 = .ok (.new 92, 3) := dk_187 0 92 (dk_at dksJ5_put_0 4 rfl rfl)
theorem dJ5_put_7 : decode cJ5_put 7 = .ok (.dup, 1) := dk_89 (dk_at dksJ5_put_0 7 rfl rfl)
theorem dJ5_put_8 : decode cJ5_put 8 = .ok (.invokespecial 94, 3) := dk_183 0 94 (dk_at dksJ5_put_0 8 rfl rfl)
theorem dJ5_put_11 : decode cJ5_put 11 = .ok (.athrow, 1) := dk_191 (dk_at dksJ5_put_0 11 rfl rfl)
theorem dJ5_put_12 : decode cJ5_put 12 = .ok (.aload_n 0, 1) := dk_42 (dk_at dksJ5_put_0 12 rfl rfl)
theorem dJ5_put_13 : decode cJ5_put 13 = .ok (.getfield 53, 3) := dk_180 0 53 (dk_at dksJ5_put_0 13 rfl rfl)
theorem dJ5_put_16 : decode cJ5_put 16 = .ok (.astore_n 3, 1) := dk_78 (dk_at dksJ5_put_0 16 rfl rfl)
theorem dJ5_put_17 : decode cJ5_put 17 = .ok (.aload_n 1, 1) := dk_43 (dk_at dksJ5_put_0 17 rfl rfl)
theorem dJ5_put_18 : decode cJ5_put 18 = .ok (.invokevirtual 112, 3) := dk_182 0 112 (dk_at dksJ5_put_0 18 rfl rfl)
theorem dJ5_put_21 : decode cJ5_put 21 = .ok (.istore 4, 2) := dk_54 4 (dk_at dksJ5_put_0 21 rfl rfl)
theorem dJ5_put_23 : decode cJ5_put 23 = .ok (.iload 4, 2) := dk_21 4 (dk_at dksJ5_put_1 0 rfl rfl)
theorem dJ5_put_25 : decode cJ5_put 25 = .ok (.ldc 115, 2) := dk_18 115 (dk_at dksJ5_put_1 2 rfl rfl)
theorem dJ5_put_27 : decode cJ5_put 27 = .ok (.iand, 1) := dk_126 (dk_at dksJ5_put_1 4 rfl rfl)
theorem dJ5_put_28 : decode cJ5_put 28 = .ok (.aload_n 3, 1) := dk_45 (dk_at dksJ5_put_1 5 rfl rfl)
theorem dJ5_put_29 : decode cJ5_put 29 = .ok (.arraylength, 1) := dk_190 (dk_at dksJ5_put_1 6 rfl rfl)
theorem dJ5_put_30 : decode cJ5_put 30 = .ok (.irem, 1) := dk_112 (dk_at dksJ5_put_1 7 rfl rfl)
theorem dJ5_put_31 : decode cJ5_put 31 = .ok (.istore 5, 2) := dk_54 5 (dk_at dksJ5_put_1 8 rfl rfl)
theorem dJ5_put_33 : decode cJ5_put 33 = .ok (.aload_n 3, 1) := dk_45 (dk_at dksJ5_put_1 10 rfl rfl)
theorem dJ5_put_34 : decode cJ5_put 34 = .ok (.iload 5, 2) := dk_21 5 (dk_at dksJ5_put_1 11 rfl rfl)
theorem dJ5_put_36 : decode cJ5_put 36 = .ok (.aaload, 1) := dk_50 (dk_at dksJ5_put_1 13 rfl rfl)
theorem dJ5_put_37 : decode cJ5_put 37 = .ok (.astore 6, 2) := dk_58 6 (dk_at dksJ5_put_1 14 rfl rfl)
theorem dJ5_put_39 : decode cJ5_put 39 = .ok (.aload 6, 2) := dk_25 6 (dk_at dksJ5_put_1 16 rfl rfl)
theorem dJ5_put_41 : decode cJ5_put 41 = .ok (.ifnull 51, 3) := dk_198 0 51 (dk_at dksJ5_put_1 18 rfl rfl)
theorem dJ5_put_44 : decode cJ5_put 44 = .ok (.aload 6, 2) := dk_25 6 (dk_at dksJ5_put_1 21 rfl rfl)
theorem dJ5_put_46 : decode cJ5_put 46 = .ok (.getfield 116, 3) := dk_180 0 116 (dk_at dksJ5_put_2 0 rfl rfl)
theorem dJ5_put_49 : decode cJ5_put 49 = .ok (.iload 4, 2) := dk_21 4 (dk_at dksJ5_put_2 3 rfl rfl)
theorem dJ5_put_51 : decode cJ5_put 51 = .ok (.if_icmp .ne 31, 3) := dk_160 0 31 (dk_at dksJ5_put_2 5 rfl rfl)
theorem dJ5_put_54 : decode cJ5_put 54 = .ok (.aload 6, 2) := dk_25 6 (dk_at dksJ5_put_2 8 rfl rfl)
theorem dJ5_put_56 : decode cJ5_put 56 = .ok (.getfield 119, 3) := dk_180 0 119 (dk_at dksJ5_put_2 10 rfl rfl)
theorem dJ5_put_59 : decode cJ5_put 59 = .ok (.aload_n 1, 1) := dk_43 (dk_at dksJ5_put_2 13 rfl rfl)
theorem dJ5_put_60 : decode cJ5_put 60 = .ok (.invokevirtual 99, 3) := dk_182 0 99 (dk_at dksJ5_put_2 14 rfl rfl)
theorem dJ5_put_63 : decode cJ5_put 63 = .ok (.ifCond .eq 19, 3) := dk_153 0 19 (dk_at dksJ5_put_2 17 rfl rfl)
theorem dJ5_put_66 : decode cJ5_put 66 = .ok (.aload 6, 2) := dk_25 6 (dk_at dksJ5_put_2 20 rfl rfl)
theorem dJ5_put_68 : decode cJ5_put 68 = .ok (.getfield 95, 3) := dk_180 0 95 (dk_at dksJ5_put_3 0 rfl rfl)
theorem dJ5_put_71 : decode cJ5_put 71 = .ok (.astore 7, 2) := dk_58 7 (dk_at dksJ5_put_3 3 rfl rfl)
theorem dJ5_put_73 : decode cJ5_put 73 = .ok (.aload 6, 2) := dk_25 6 (dk_at dksJ5_put_3 5 rfl rfl)
theorem dJ5_put_75 : decode cJ5_put 75 = .ok (.aload_n 2, 1) := dk_44 (dk_at dksJ5_put_3 7 rfl rfl)
theorem dJ5_put_76 : decode cJ5_put 76 = .ok (.putfield 95, 3) := dk_181 0 95 (dk_at dksJ5_put_3 8 rfl rfl)
theorem dJ5_put_79 : decode cJ5_put 79 = .ok (.aload 7, 2) := dk_25 7 (dk_at dksJ5_put_3 11 rfl rfl)
theorem dJ5_put_81 : decode cJ5_put 81 = .ok (.areturn, 1) := dk_176 (dk_at dksJ5_put_3 13 rfl rfl)
theorem dJ5_put_82 : decode cJ5_put 82 = .ok (.aload 6, 2) := dk_25 6 (dk_at dksJ5_put_3 14 rfl rfl)
theorem dJ5_put_84 : decode cJ5_put 84 = .ok (.getfield 105, 3) := dk_180 0 105 (dk_at dksJ5_put_3 16 rfl rfl)
theorem dJ5_put_87 : decode cJ5_put 87 = .ok (.astore 6, 2) := dk_58 6 (dk_at dksJ5_put_3 19 rfl rfl)
theorem dJ5_put_89 : decode cJ5_put 89 = .ok (.goto (-50), 3) := dk_167 255 206 (dk_at dksJ5_put_3 21 rfl rfl)
theorem dJ5_put_92 : decode cJ5_put 92 = .ok (.aload_n 0, 1) := dk_42 (dk_at dksJ5_put_4 0 rfl rfl)
theorem dJ5_put_93 : decode cJ5_put 93 = .ok (.iload 4, 2) := dk_21 4 (dk_at dksJ5_put_4 1 rfl rfl)
theorem dJ5_put_95 : decode cJ5_put 95 = .ok (.aload_n 1, 1) := dk_43 (dk_at dksJ5_put_4 3 rfl rfl)
theorem dJ5_put_96 : decode cJ5_put 96 = .ok (.aload_n 2, 1) := dk_44 (dk_at dksJ5_put_4 4 rfl rfl)
theorem dJ5_put_97 : decode cJ5_put 97 = .ok (.iload 5, 2) := dk_21 5 (dk_at dksJ5_put_4 5 rfl rfl)
theorem dJ5_put_99 : decode cJ5_put 99 = .ok (.invokevirtual 129, 3) := dk_182 0 129 (dk_at dksJ5_put_4 7 rfl rfl)
theorem dJ5_put_102 : decode cJ5_put 102 = .ok (.aconst_null, 1) := by decide +kernel
theorem dJ5_put_103 : decode cJ5_put 103 = .ok (.areturn, 1) := dk_176 (dk_at dksJ5_put_4 11 rfl rfl)
abbrev cJ5_get : ByteArray := prog_23_method_13_code
def yJ5_get : MethodName := ⟨RJ5, "get", "(Ljava/lang/Object;)Ljava/lang/Object;"⟩
def dkwJ5_get_2 : List UInt8 := [182, 0, 99, 153, 0, 9, 25, 5, 180, 0, 95, 176, 25, 5, 180, 0, 105, 58, 5, 167, 255, 217, 1, 176]
abbrev dktJ5_get_2 : List UInt8 := dkwJ5_get_2 ++ []
def dkwJ5_get_1 : List UInt8 := [58, 5, 25, 5, 198, 0, 40, 25, 5, 180, 0, 116, 29, 160, 0, 21, 25, 5, 180, 0, 119, 43]
abbrev dktJ5_get_1 : List UInt8 := dkwJ5_get_1 ++ dktJ5_get_2
def dkwJ5_get_0 : List UInt8 := [42, 180, 0, 53, 77, 43, 182, 0, 112, 62, 29, 18, 115, 126, 44, 190, 112, 54, 4, 44, 21, 4, 50]
abbrev dktJ5_get_0 : List UInt8 := dkwJ5_get_0 ++ dktJ5_get_1
theorem dksJ5_get_0 : cJ5_get.data.toList.drop 0 = dktJ5_get_0 := by decide +kernel
theorem dksJ5_get_1 : cJ5_get.data.toList.drop 23 = dktJ5_get_1 := dk_seg dksJ5_get_0 23 rfl rfl
theorem dksJ5_get_2 : cJ5_get.data.toList.drop 45 = dktJ5_get_2 := dk_seg dksJ5_get_1 22 rfl rfl
theorem dJ5_get_0 : decode cJ5_get 0 = .ok (.aload_n 0, 1) := dk_42 (dk_at dksJ5_get_0 0 rfl rfl)
theorem dJ5_get_1 : decode cJ5_get 1 = .ok (.getfield 53, 3) := dk_180 0 53 (dk_at dksJ5_get_0 1 rfl rfl)
theorem dJ5_get_4 : decode cJ5_get 4 = .ok (.astore_n 2, 1) := dk_77 (dk_at dksJ5_get_0 4 rfl rfl)
theorem dJ5_get_5 : decode cJ5_get 5 = .ok (.aload_n 1, 1) := dk_43 (dk_at dksJ5_get_0 5 rfl rfl)
theorem dJ5_get_6 : decode cJ5_get 6 = .ok (.invokevirtual 112, 3) := dk_182 0 112 (dk_at dksJ5_get_0 6 rfl rfl)
theorem dJ5_get_9 : decode cJ5_get 9 = .ok (.istore_n 3, 1) := dk_62 (dk_at dksJ5_get_0 9 rfl rfl)
theorem dJ5_get_10 : decode cJ5_get 10 = .ok (.iload_n 3, 1) := dk_29 (dk_at dksJ5_get_0 10 rfl rfl)
theorem dJ5_get_11 : decode cJ5_get 11 = .ok (.ldc 115, 2) := dk_18 115 (dk_at dksJ5_get_0 11 rfl rfl)
theorem dJ5_get_13 : decode cJ5_get 13 = .ok (.iand, 1) := dk_126 (dk_at dksJ5_get_0 13 rfl rfl)
theorem dJ5_get_14 : decode cJ5_get 14 = .ok (.aload_n 2, 1) := dk_44 (dk_at dksJ5_get_0 14 rfl rfl)
theorem dJ5_get_15 : decode cJ5_get 15 = .ok (.arraylength, 1) := dk_190 (dk_at dksJ5_get_0 15 rfl rfl)
theorem dJ5_get_16 : decode cJ5_get 16 = .ok (.irem, 1) := dk_112 (dk_at dksJ5_get_0 16 rfl rfl)
theorem dJ5_get_17 : decode cJ5_get 17 = .ok (.istore 4, 2) := dk_54 4 (dk_at dksJ5_get_0 17 rfl rfl)
theorem dJ5_get_19 : decode cJ5_get 19 = .ok (.aload_n 2, 1) := dk_44 (dk_at dksJ5_get_0 19 rfl rfl)
theorem dJ5_get_20 : decode cJ5_get 20 = .ok (.iload 4, 2) := dk_21 4 (dk_at dksJ5_get_0 20 rfl rfl)
theorem dJ5_get_22 : decode cJ5_get 22 = .ok (.aaload, 1) := dk_50 (dk_at dksJ5_get_0 22 rfl rfl)
theorem dJ5_get_23 : decode cJ5_get 23 = .ok (.astore 5, 2) := dk_58 5 (dk_at dksJ5_get_1 0 rfl rfl)
theorem dJ5_get_25 : decode cJ5_get 25 = .ok (.aload 5, 2) := dk_25 5 (dk_at dksJ5_get_1 2 rfl rfl)
theorem dJ5_get_27 : decode cJ5_get 27 = .ok (.ifnull 40, 3) := dk_198 0 40 (dk_at dksJ5_get_1 4 rfl rfl)
theorem dJ5_get_30 : decode cJ5_get 30 = .ok (.aload 5, 2) := dk_25 5 (dk_at dksJ5_get_1 7 rfl rfl)
theorem dJ5_get_32 : decode cJ5_get 32 = .ok (.getfield 116, 3) := dk_180 0 116 (dk_at dksJ5_get_1 9 rfl rfl)
theorem dJ5_get_35 : decode cJ5_get 35 = .ok (.iload_n 3, 1) := dk_29 (dk_at dksJ5_get_1 12 rfl rfl)
theorem dJ5_get_36 : decode cJ5_get 36 = .ok (.if_icmp .ne 21, 3) := dk_160 0 21 (dk_at dksJ5_get_1 13 rfl rfl)
theorem dJ5_get_39 : decode cJ5_get 39 = .ok (.aload 5, 2) := dk_25 5 (dk_at dksJ5_get_1 16 rfl rfl)
theorem dJ5_get_41 : decode cJ5_get 41 = .ok (.getfield 119, 3) := dk_180 0 119 (dk_at dksJ5_get_1 18 rfl rfl)
theorem dJ5_get_44 : decode cJ5_get 44 = .ok (.aload_n 1, 1) := dk_43 (dk_at dksJ5_get_1 21 rfl rfl)
theorem dJ5_get_45 : decode cJ5_get 45 = .ok (.invokevirtual 99, 3) := dk_182 0 99 (dk_at dksJ5_get_2 0 rfl rfl)
theorem dJ5_get_48 : decode cJ5_get 48 = .ok (.ifCond .eq 9, 3) := dk_153 0 9 (dk_at dksJ5_get_2 3 rfl rfl)
theorem dJ5_get_51 : decode cJ5_get 51 = .ok (.aload 5, 2) := dk_25 5 (dk_at dksJ5_get_2 6 rfl rfl)
theorem dJ5_get_53 : decode cJ5_get 53 = .ok (.getfield 95, 3) := dk_180 0 95 (dk_at dksJ5_get_2 8 rfl rfl)
theorem dJ5_get_56 : decode cJ5_get 56 = .ok (.areturn, 1) := dk_176 (dk_at dksJ5_get_2 11 rfl rfl)
theorem dJ5_get_57 : decode cJ5_get 57 = .ok (.aload 5, 2) := dk_25 5 (dk_at dksJ5_get_2 12 rfl rfl)
theorem dJ5_get_59 : decode cJ5_get 59 = .ok (.getfield 105, 3) := dk_180 0 105 (dk_at dksJ5_get_2 14 rfl rfl)
theorem dJ5_get_62 : decode cJ5_get 62 = .ok (.astore 5, 2) := dk_58 5 (dk_at dksJ5_get_2 17 rfl rfl)
theorem dJ5_get_64 : decode cJ5_get 64 = .ok (.goto (-39), 3) := dk_167 255 217 (dk_at dksJ5_get_2 19 rfl rfl)
theorem dJ5_get_67 : decode cJ5_get 67 = .ok (.aconst_null, 1) := by decide +kernel
theorem dJ5_get_68 : decode cJ5_get 68 = .ok (.areturn, 1) := dk_176 (dk_at dksJ5_get_2 23 rfl rfl)
abbrev cJ5_remove : ByteArray := prog_23_method_17_code
def yJ5_remove : MethodName := ⟨RJ5, "remove", "(Ljava/lang/Object;)Ljava/lang/Object;"⟩
def dkwJ5_remove_5 : List UInt8 := [25, 5, 58, 6, 25, 5, 180, 0, 105, 58, 5, 167, 255, 156, 1, 176]
abbrev dktJ5_remove_5 : List UInt8 := dkwJ5_remove_5 ++ []
def dkwJ5_remove_4 : List UInt8 := [180, 0, 85, 4, 100, 181, 0, 85, 25, 5, 180, 0, 95, 58, 7, 25, 5, 1, 181, 0, 95, 25, 7, 176]
abbrev dktJ5_remove_4 : List UInt8 := dkwJ5_remove_4 ++ dktJ5_remove_5
def dkwJ5_remove_3 : List UInt8 := [167, 0, 12, 44, 21, 4, 25, 5, 180, 0, 105, 83, 42, 89, 180, 0, 9, 4, 96, 181, 0, 9, 42, 89]
abbrev dktJ5_remove_3 : List UInt8 := dkwJ5_remove_3 ++ dktJ5_remove_4
def dkwJ5_remove_2 : List UInt8 := [43, 182, 0, 99, 153, 0, 66, 25, 6, 198, 0, 16, 25, 6, 25, 5, 180, 0, 105, 181, 0, 105]
abbrev dktJ5_remove_2 : List UInt8 := dkwJ5_remove_2 ++ dktJ5_remove_3
def dkwJ5_remove_1 : List UInt8 := [58, 5, 1, 58, 6, 25, 5, 198, 0, 101, 25, 5, 180, 0, 116, 29, 160, 0, 78, 25, 5, 180, 0, 119]
abbrev dktJ5_remove_1 : List UInt8 := dkwJ5_remove_1 ++ dktJ5_remove_2
def dkwJ5_remove_0 : List UInt8 := [42, 180, 0, 53, 77, 43, 182, 0, 112, 62, 29, 18, 115, 126, 44, 190, 112, 54, 4, 44, 21, 4, 50]
abbrev dktJ5_remove_0 : List UInt8 := dkwJ5_remove_0 ++ dktJ5_remove_1
theorem dksJ5_remove_0 : cJ5_remove.data.toList.drop 0 = dktJ5_remove_0 := by decide +kernel
theorem dksJ5_remove_1 : cJ5_remove.data.toList.drop 23 = dktJ5_remove_1 := dk_seg dksJ5_remove_0 23 rfl rfl
theorem dksJ5_remove_2 : cJ5_remove.data.toList.drop 47 = dktJ5_remove_2 := dk_seg dksJ5_remove_1 24 rfl rfl
theorem dksJ5_remove_3 : cJ5_remove.data.toList.drop 69 = dktJ5_remove_3 := dk_seg dksJ5_remove_2 22 rfl rfl
theorem dksJ5_remove_4 : cJ5_remove.data.toList.drop 93 = dktJ5_remove_4 := dk_seg dksJ5_remove_3 24 rfl rfl
theorem dksJ5_remove_5 : cJ5_remove.data.toList.drop 117 = dktJ5_remove_5 := dk_seg dksJ5_remove_4 24 rfl rfl
theorem dJ5_remove_0 : decode cJ5_remove 0 = .ok (.aload_n 0, 1) := dk_42 (dk_at dksJ5_remove_0 0 rfl rfl)
theorem dJ5_remove_1 : decode cJ5_remove 1 = .ok (.getfield 53, 3) := dk_180 0 53 (dk_at dksJ5_remove_0 1 rfl rfl)
theorem dJ5_remove_4 : decode cJ5_remove 4 = .ok (.astore_n 2, 1) := dk_77 (dk_at dksJ5_remove_0 4 rfl rfl)
theorem dJ5_remove_5 : decode cJ5_remove 5 = .ok (.aload_n 1, 1) := dk_43 (dk_at dksJ5_remove_0 5 rfl rfl)
theorem dJ5_remove_6 : decode cJ5_remove 6 = .ok (.invokevirtual 112, 3) := dk_182 0 112 (dk_at dksJ5_remove_0 6 rfl rfl)
theorem dJ5_remove_9 : decode cJ5_remove 9 = .ok (.istore_n 3, 1) := dk_62 (dk_at dksJ5_remove_0 9 rfl rfl)
theorem dJ5_remove_10 : decode cJ5_remove 10 = .ok (.iload_n 3, 1) := dk_29 (dk_at dksJ5_remove_0 10 rfl rfl)
theorem dJ5_remove_11 : decode cJ5_remove 11 = .ok (.ldc 115, 2) := dk_18 115 (dk_at dksJ5_remove_0 11 rfl rfl)
theorem dJ5_remove_13 : decode cJ5_remove 13 = .ok (.iand, 1) := dk_126 (dk_at dksJ5_remove_0 13 rfl rfl)
theorem dJ5_remove_14 : decode cJ5_remove 14 = .ok (.aload_n 2, 1) := dk_44 (dk_at dksJ5_remove_0 14 rfl rfl)
theorem dJ5_remove_15 : decode cJ5_remove 15 = .ok (.arraylength, 1) := dk_190 (dk_at dksJ5_remove_0 15 rfl rfl)
theorem dJ5_remove_16 : decode cJ5_remove 16 = .ok (.irem, 1) := dk_112 (dk_at dksJ5_remove_0 16 rfl rfl)
theorem dJ5_remove_17 : decode cJ5_remove 17 = .ok (.istore 4, 2) := dk_54 4 (dk_at dksJ5_remove_0 17 rfl rfl)
theorem dJ5_remove_19 : decode cJ5_remove 19 = .ok (.aload_n 2, 1) := dk_44 (dk_at dksJ5_remove_0 19 rfl rfl)
theorem dJ5_remove_20 : decode cJ5_remove 20 = .ok (.iload 4, 2) := dk_21 4 (dk_at dksJ5_remove_0 20 rfl rfl)
theorem dJ5_remove_22 : decode cJ5_remove 22 = .ok (.aaload, 1) := dk_50 (dk_at dksJ5_remove_0 22 rfl rfl)
theorem dJ5_remove_23 : decode cJ5_remove 23 = .ok (.astore 5, 2) := dk_58 5 (dk_at dksJ5_remove_1 0 rfl rfl)
theorem dJ5_remove_25 : decode cJ5_remove 25 = .ok (.aconst_null, 1) := by decide +kernel
theorem dJ5_remove_26 : decode cJ5_remove 26 = .ok (.astore 6, 2) := dk_58 6 (dk_at dksJ5_remove_1 3 rfl rfl)
theorem dJ5_remove_28 : decode cJ5_remove 28 = .ok (.aload 5, 2) := dk_25 5 (dk_at dksJ5_remove_1 5 rfl rfl)
theorem dJ5_remove_30 : decode cJ5_remove 30 = .ok (.ifnull 101, 3) := dk_198 0 101 (dk_at dksJ5_remove_1 7 rfl rfl)
theorem dJ5_remove_33 : decode cJ5_remove 33 = .ok (.aload 5, 2) := dk_25 5 (dk_at dksJ5_remove_1 10 rfl rfl)
theorem dJ5_remove_35 : decode cJ5_remove 35 = .ok (.getfield 116, 3) := dk_180 0 116 (dk_at dksJ5_remove_1 12 rfl rfl)
theorem dJ5_remove_38 : decode cJ5_remove 38 = .ok (.iload_n 3, 1) := dk_29 (dk_at dksJ5_remove_1 15 rfl rfl)
theorem dJ5_remove_39 : decode cJ5_remove 39 = .ok (.if_icmp .ne 78, 3) := dk_160 0 78 (dk_at dksJ5_remove_1 16 rfl rfl)
theorem dJ5_remove_42 : decode cJ5_remove 42 = .ok (.aload 5, 2) := dk_25 5 (dk_at dksJ5_remove_1 19 rfl rfl)
theorem dJ5_remove_44 : decode cJ5_remove 44 = .ok (.getfield 119, 3) := dk_180 0 119 (dk_at dksJ5_remove_1 21 rfl rfl)
theorem dJ5_remove_47 : decode cJ5_remove 47 = .ok (.aload_n 1, 1) := dk_43 (dk_at dksJ5_remove_2 0 rfl rfl)
theorem dJ5_remove_48 : decode cJ5_remove 48 = .ok (.invokevirtual 99, 3) := dk_182 0 99 (dk_at dksJ5_remove_2 1 rfl rfl)
theorem dJ5_remove_51 : decode cJ5_remove 51 = .ok (.ifCond .eq 66, 3) := dk_153 0 66 (dk_at dksJ5_remove_2 4 rfl rfl)
theorem dJ5_remove_54 : decode cJ5_remove 54 = .ok (.aload 6, 2) := dk_25 6 (dk_at dksJ5_remove_2 7 rfl rfl)
theorem dJ5_remove_56 : decode cJ5_remove 56 = .ok (.ifnull 16, 3) := dk_198 0 16 (dk_at dksJ5_remove_2 9 rfl rfl)
theorem dJ5_remove_59 : decode cJ5_remove 59 = .ok (.aload 6, 2) := dk_25 6 (dk_at dksJ5_remove_2 12 rfl rfl)
theorem dJ5_remove_61 : decode cJ5_remove 61 = .ok (.aload 5, 2) := dk_25 5 (dk_at dksJ5_remove_2 14 rfl rfl)
theorem dJ5_remove_63 : decode cJ5_remove 63 = .ok (.getfield 105, 3) := dk_180 0 105 (dk_at dksJ5_remove_2 16 rfl rfl)
theorem dJ5_remove_66 : decode cJ5_remove 66 = .ok (.putfield 105, 3) := dk_181 0 105 (dk_at dksJ5_remove_2 19 rfl rfl)
theorem dJ5_remove_69 : decode cJ5_remove 69 = .ok (.goto 12, 3) := dk_167 0 12 (dk_at dksJ5_remove_3 0 rfl rfl)
theorem dJ5_remove_72 : decode cJ5_remove 72 = .ok (.aload_n 2, 1) := dk_44 (dk_at dksJ5_remove_3 3 rfl rfl)
theorem dJ5_remove_73 : decode cJ5_remove 73 = .ok (.iload 4, 2) := dk_21 4 (dk_at dksJ5_remove_3 4 rfl rfl)
theorem dJ5_remove_75 : decode cJ5_remove 75 = .ok (.aload 5, 2) := dk_25 5 (dk_at dksJ5_remove_3 6 rfl rfl)
theorem dJ5_remove_77 : decode cJ5_remove 77 = .ok (.getfield 105, 3) := dk_180 0 105 (dk_at dksJ5_remove_3 8 rfl rfl)
theorem dJ5_remove_80 : decode cJ5_remove 80 = .ok (.aastore, 1) := dk_83 (dk_at dksJ5_remove_3 11 rfl rfl)
theorem dJ5_remove_81 : decode cJ5_remove 81 = .ok (.aload_n 0, 1) := dk_42 (dk_at dksJ5_remove_3 12 rfl rfl)
theorem dJ5_remove_82 : decode cJ5_remove 82 = .ok (.dup, 1) := dk_89 (dk_at dksJ5_remove_3 13 rfl rfl)
theorem dJ5_remove_83 : decode cJ5_remove 83 = .ok (.getfield 9, 3) := dk_180 0 9 (dk_at dksJ5_remove_3 14 rfl rfl)
theorem dJ5_remove_86 : decode cJ5_remove 86 = .ok (.iconst 1, 1) := dk_4 (dk_at dksJ5_remove_3 17 rfl rfl)
theorem dJ5_remove_87 : decode cJ5_remove 87 = .ok (.iadd, 1) := dk_96 (dk_at dksJ5_remove_3 18 rfl rfl)
theorem dJ5_remove_88 : decode cJ5_remove 88 = .ok (.putfield 9, 3) := dk_181 0 9 (dk_at dksJ5_remove_3 19 rfl rfl)
theorem dJ5_remove_91 : decode cJ5_remove 91 = .ok (.aload_n 0, 1) := dk_42 (dk_at dksJ5_remove_3 22 rfl rfl)
theorem dJ5_remove_92 : decode cJ5_remove 92 = .ok (.dup, 1) := dk_89 (dk_at dksJ5_remove_3 23 rfl rfl)
theorem dJ5_remove_93 : decode cJ5_remove 93 = .ok (.getfield 85, 3) := dk_180 0 85 (dk_at dksJ5_remove_4 0 rfl rfl)
theorem dJ5_remove_96 : decode cJ5_remove 96 = .ok (.iconst 1, 1) := dk_4 (dk_at dksJ5_remove_4 3 rfl rfl)
theorem dJ5_remove_97 : decode cJ5_remove 97 = .ok (.isub, 1) := dk_100 (dk_at dksJ5_remove_4 4 rfl rfl)
theorem dJ5_remove_98 : decode cJ5_remove 98 = .ok (.putfield 85, 3) := dk_181 0 85 (dk_at dksJ5_remove_4 5 rfl rfl)
theorem dJ5_remove_101 : decode cJ5_remove 101 = .ok (.aload 5, 2) := dk_25 5 (dk_at dksJ5_remove_4 8 rfl rfl)
theorem dJ5_remove_103 : decode cJ5_remove 103 = .ok (.getfield 95, 3) := dk_180 0 95 (dk_at dksJ5_remove_4 10 rfl rfl)
theorem dJ5_remove_106 : decode cJ5_remove 106 = .ok (.astore 7, 2) := dk_58 7 (dk_at dksJ5_remove_4 13 rfl rfl)
theorem dJ5_remove_108 : decode cJ5_remove 108 = .ok (.aload 5, 2) := dk_25 5 (dk_at dksJ5_remove_4 15 rfl rfl)
theorem dJ5_remove_110 : decode cJ5_remove 110 = .ok (.aconst_null, 1) := by decide +kernel
theorem dJ5_remove_111 : decode cJ5_remove 111 = .ok (.putfield 95, 3) := dk_181 0 95 (dk_at dksJ5_remove_4 18 rfl rfl)
theorem dJ5_remove_114 : decode cJ5_remove 114 = .ok (.aload 7, 2) := dk_25 7 (dk_at dksJ5_remove_4 21 rfl rfl)
theorem dJ5_remove_116 : decode cJ5_remove 116 = .ok (.areturn, 1) := dk_176 (dk_at dksJ5_remove_4 23 rfl rfl)
theorem dJ5_remove_117 : decode cJ5_remove 117 = .ok (.aload 5, 2) := dk_25 5 (dk_at dksJ5_remove_5 0 rfl rfl)
theorem dJ5_remove_119 : decode cJ5_remove 119 = .ok (.astore 6, 2) := dk_58 6 (dk_at dksJ5_remove_5 2 rfl rfl)
theorem dJ5_remove_121 : decode cJ5_remove 121 = .ok (.aload 5, 2) := dk_25 5 (dk_at dksJ5_remove_5 4 rfl rfl)
theorem dJ5_remove_123 : decode cJ5_remove 123 = .ok (.getfield 105, 3) := dk_180 0 105 (dk_at dksJ5_remove_5 6 rfl rfl)
theorem dJ5_remove_126 : decode cJ5_remove 126 = .ok (.astore 5, 2) := dk_58 5 (dk_at dksJ5_remove_5 9 rfl rfl)
theorem dJ5_remove_128 : decode cJ5_remove 128 = .ok (.goto (-100), 3) := dk_167 255 156 (dk_at dksJ5_remove_5 11 rfl rfl)
theorem dJ5_remove_131 : decode cJ5_remove 131 = .ok (.aconst_null, 1) := by decide +kernel
theorem dJ5_remove_132 : decode cJ5_remove 132 = .ok (.areturn, 1) := dk_176 (dk_at dksJ5_remove_5 15 rfl rfl)
abbrev cJ5_contains : ByteArray := prog_23_method_10_code
def yJ5_contains : MethodName := ⟨RJ5, "contains", "(Ljava/lang/Object;)Z"⟩
def dkwJ5_contains_2 : List UInt8 := [153, 0, 5, 4, 172, 25, 4, 180, 0, 105, 58, 4, 167, 255, 230, 167, 255, 215, 3, 172]
abbrev dktJ5_contains_2 : List UInt8 := dkwJ5_contains_2 ++ []
def dkwJ5_contains_1 : List UInt8 := [158, 0, 40, 44, 29, 50, 58, 4, 25, 4, 198, 0, 27, 25, 4, 180, 0, 95, 43, 182, 0, 99]
abbrev dktJ5_contains_1 : List UInt8 := dkwJ5_contains_1 ++ dktJ5_contains_2
def dkwJ5_contains_0 : List UInt8 := [43, 199, 0, 11, 187, 0, 92, 89, 183, 0, 94, 191, 42, 180, 0, 53, 77, 44, 190, 62, 29, 132, 3, 255]
abbrev dktJ5_contains_0 : List UInt8 := dkwJ5_contains_0 ++ dktJ5_contains_1
theorem dksJ5_contains_0 : cJ5_contains.data.toList.drop 0 = dktJ5_contains_0 := by decide +kernel
theorem dksJ5_contains_1 : cJ5_contains.data.toList.drop 24 = dktJ5_contains_1 := dk_seg dksJ5_contains_0 24 rfl rfl
theorem dksJ5_contains_2 : cJ5_contains.data.toList.drop 46 = dktJ5_contains_2 := dk_seg dksJ5_contains_1 22 rfl rfl
theorem dJ5_contains_0 : decode cJ5_contains 0 = .ok (.aload_n 1, 1) := dk_43 (dk_at dksJ5_contains_0 0 rfl rfl)
theorem dJ5_contains_1 : decode cJ5_contains 1 = .ok (.ifnonnull 11, 3) := dk_199 0 11 (dk_at dksJ5_contains_0 1 rfl rfl)
theorem dJ5_contains_4 : decode cJ5_contains 4 = .ok (.new 92, 3) := dk_187 0 92 (dk_at dksJ5_contains_0 4 rfl rfl)
theorem dJ5_contains_7 : decode cJ5_contains 7 = .ok (.dup, 1) := dk_89 (dk_at dksJ5_contains_0 7 rfl rfl)
theorem dJ5_contains_8 : decode cJ5_contains 8 = .ok (.invokespecial 94, 3) := dk_183 0 94 (dk_at dksJ5_contains_0 8 rfl rfl)
theorem dJ5_contains_11 : decode cJ5_contains 11 = .ok (.athrow, 1) := dk_191 (dk_at dksJ5_contains_0 11 rfl rfl)
theorem dJ5_contains_12 : decode cJ5_contains 12 = .ok (.aload_n 0, 1) := dk_42 (dk_at dksJ5_contains_0 12 rfl rfl)
theorem dJ5_contains_13 : decode cJ5_contains 13 = .ok (.getfield 53, 3) := dk_180 0 53 (dk_at dksJ5_contains_0 13 rfl rfl)
theorem dJ5_contains_16 : decode cJ5_contains 16 = .ok (.astore_n 2, 1) := dk_77 (dk_at dksJ5_contains_0 16 rfl rfl)
theorem dJ5_contains_17 : decode cJ5_contains 17 = .ok (.aload_n 2, 1) := dk_44 (dk_at dksJ5_contains_0 17 rfl rfl)
theorem dJ5_contains_18 : decode cJ5_contains 18 = .ok (.arraylength, 1) := dk_190 (dk_at dksJ5_contains_0 18 rfl rfl)
theorem dJ5_contains_19 : decode cJ5_contains 19 = .ok (.istore_n 3, 1) := dk_62 (dk_at dksJ5_contains_0 19 rfl rfl)
theorem dJ5_contains_20 : decode cJ5_contains 20 = .ok (.iload_n 3, 1) := dk_29 (dk_at dksJ5_contains_0 20 rfl rfl)
theorem dJ5_contains_21 : decode cJ5_contains 21 = .ok (.iinc 3 (-1), 3) := dk_132 3 255 (dk_at dksJ5_contains_0 21 rfl rfl)
theorem dJ5_contains_24 : decode cJ5_contains 24 = .ok (.ifCond .le 40, 3) := dk_158 0 40 (dk_at dksJ5_contains_1 0 rfl rfl)
theorem dJ5_contains_27 : decode cJ5_contains 27 = .ok (.aload_n 2, 1) := dk_44 (dk_at dksJ5_contains_1 3 rfl rfl)
theorem dJ5_contains_28 : decode cJ5_contains 28 = .ok (.iload_n 3, 1) := dk_29 (dk_at dksJ5_contains_1 4 rfl rfl)
theorem dJ5_contains_29 : decode cJ5_contains 29 = .ok (.aaload, 1) := dk_50 (dk_at dksJ5_contains_1 5 rfl rfl)
theorem dJ5_contains_30 : decode cJ5_contains 30 = .ok (.astore 4, 2) := dk_58 4 (dk_at dksJ5_contains_1 6 rfl rfl)
theorem dJ5_contains_32 : decode cJ5_contains 32 = .ok (.aload 4, 2) := dk_25 4 (dk_at dksJ5_contains_1 8 rfl rfl)
theorem dJ5_contains_34 : decode cJ5_contains 34 = .ok (.ifnull 27, 3) := dk_198 0 27 (dk_at dksJ5_contains_1 10 rfl rfl)
theorem dJ5_contains_37 : decode cJ5_contains 37 = .ok (.aload 4, 2) := dk_25 4 (dk_at dksJ5_contains_1 13 rfl rfl)
theorem dJ5_contains_39 : decode cJ5_contains 39 = .ok (.getfield 95, 3) := dk_180 0 95 (dk_at dksJ5_contains_1 15 rfl rfl)
theorem dJ5_contains_42 : decode cJ5_contains 42 = .ok (.aload_n 1, 1) := dk_43 (dk_at dksJ5_contains_1 18 rfl rfl)
theorem dJ5_contains_43 : decode cJ5_contains 43 = .ok (.invokevirtual 99, 3) := dk_182 0 99 (dk_at dksJ5_contains_1 19 rfl rfl)
theorem dJ5_contains_46 : decode cJ5_contains 46 = .ok (.ifCond .eq 5, 3) := dk_153 0 5 (dk_at dksJ5_contains_2 0 rfl rfl)
theorem dJ5_contains_49 : decode cJ5_contains 49 = .ok (.iconst 1, 1) := dk_4 (dk_at dksJ5_contains_2 3 rfl rfl)
theorem dJ5_contains_50 : decode cJ5_contains 50 = .ok (.ireturn, 1) := dk_172 (dk_at dksJ5_contains_2 4 rfl rfl)
theorem dJ5_contains_51 : decode cJ5_contains 51 = .ok (.aload 4, 2) := dk_25 4 (dk_at dksJ5_contains_2 5 rfl rfl)
theorem dJ5_contains_53 : decode cJ5_contains 53 = .ok (.getfield 105, 3) := dk_180 0 105 (dk_at dksJ5_contains_2 7 rfl rfl)
theorem dJ5_contains_56 : decode cJ5_contains 56 = .ok (.astore 4, 2) := dk_58 4 (dk_at dksJ5_contains_2 10 rfl rfl)
theorem dJ5_contains_58 : decode cJ5_contains 58 = .ok (.goto (-26), 3) := dk_167 255 230 (dk_at dksJ5_contains_2 12 rfl rfl)
theorem dJ5_contains_61 : decode cJ5_contains 61 = .ok (.goto (-41), 3) := dk_167 255 215 (dk_at dksJ5_contains_2 15 rfl rfl)
theorem dJ5_contains_64 : decode cJ5_contains 64 = .ok (.iconst 0, 1) := dk_3 (dk_at dksJ5_contains_2 18 rfl rfl)
theorem dJ5_contains_65 : decode cJ5_contains 65 = .ok (.ireturn, 1) := dk_172 (dk_at dksJ5_contains_2 19 rfl rfl)
abbrev cJ5_containsKey : ByteArray := prog_23_method_12_code
def yJ5_containsKey : MethodName := ⟨RJ5, "containsKey", "(Ljava/lang/Object;)Z"⟩
def dkwJ5_containsKey_2 : List UInt8 := [182, 0, 99, 153, 0, 5, 4, 172, 25, 5, 180, 0, 105, 58, 5, 167, 255, 221, 3, 172]
abbrev dktJ5_containsKey_2 : List UInt8 := dkwJ5_containsKey_2 ++ []
def dkwJ5_containsKey_1 : List UInt8 := [58, 5, 25, 5, 198, 0, 36, 25, 5, 180, 0, 116, 29, 160, 0, 17, 25, 5, 180, 0, 119, 43]
abbrev dktJ5_containsKey_1 : List UInt8 := dkwJ5_containsKey_1 ++ dktJ5_containsKey_2
def dkwJ5_containsKey_0 : List UInt8 := [42, 180, 0, 53, 77, 43, 182, 0, 112, 62, 29, 18, 115, 126, 44, 190, 112, 54, 4, 44, 21, 4, 50]
abbrev dktJ5_containsKey_0 : List UInt8 := dkwJ5_containsKey_0 ++ dktJ5_containsKey_1
theorem dksJ5_containsKey_0 : cJ5_containsKey.data.toList.drop 0 = dktJ5_containsKey_0 := by decide +kernel
theorem dksJ5_containsKey_1 : cJ5_containsKey.data.toList.drop 23 = dktJ5_containsKey_1 := dk_seg dksJ5_containsKey_0 23 rfl rfl
theorem dksJ5_containsKey_2 : cJ5_containsKey.data.toList.drop 45 = dktJ5_containsKey_2 := dk_seg dksJ5_containsKey_1 22 rfl rfl
theorem dJ5_containsKey_0 : decode cJ5_containsKey 0 = .ok (.aload_n 0, 1) := dk_42 (dk_at dksJ5_containsKey_0 0 rfl rfl)
theorem dJ5_containsKey_1 : decode cJ5_containsKey 1 = .ok (.getfield 53, 3) := dk_180 0 53 (dk_at dksJ5_containsKey_0 1 rfl rfl)
theorem dJ5_containsKey_4 : decode cJ5_containsKey 4 = .ok (.astore_n 2, 1) := dk_77 (dk_at dksJ5_containsKey_0 4 rfl rfl)
theorem dJ5_containsKey_5 : decode cJ5_containsKey 5 = .ok (.aload_n 1, 1) := dk_43 (dk_at dksJ5_containsKey_0 5 rfl rfl)
theorem dJ5_containsKey_6 : decode cJ5_containsKey 6 = .ok (.invokevirtual 112, 3) := dk_182 0 112 (dk_at dksJ5_containsKey_0 6 rfl rfl)
theorem dJ5_containsKey_9 : decode cJ5_containsKey 9 = .ok (.istore_n 3, 1) := dk_62 (dk_at dksJ5_containsKey_0 9 rfl rfl)
theorem dJ5_containsKey_10 : decode cJ5_containsKey 10 = .ok (.iload_n 3, 1) := dk_29 (dk_at dksJ5_containsKey_0 10 rfl rfl)
theorem dJ5_containsKey_11 : decode cJ5_containsKey 11 = .ok (.ldc 115, 2) := dk_18 115 (dk_at dksJ5_containsKey_0 11 rfl rfl)
theorem dJ5_containsKey_13 : decode cJ5_containsKey 13 = .ok (.iand, 1) := dk_126 (dk_at dksJ5_containsKey_0 13 rfl rfl)
theorem dJ5_containsKey_14 : decode cJ5_containsKey 14 = .ok (.aload_n 2, 1) := dk_44 (dk_at dksJ5_containsKey_0 14 rfl rfl)
theorem dJ5_containsKey_15 : decode cJ5_containsKey 15 = .ok (.arraylength, 1) := dk_190 (dk_at dksJ5_containsKey_0 15 rfl rfl)
theorem dJ5_containsKey_16 : decode cJ5_containsKey 16 = .ok (.irem, 1) := dk_112 (dk_at dksJ5_containsKey_0 16 rfl rfl)
theorem dJ5_containsKey_17 : decode cJ5_containsKey 17 = .ok (.istore 4, 2) := dk_54 4 (dk_at dksJ5_containsKey_0 17 rfl rfl)
theorem dJ5_containsKey_19 : decode cJ5_containsKey 19 = .ok (.aload_n 2, 1) := dk_44 (dk_at dksJ5_containsKey_0 19 rfl rfl)
theorem dJ5_containsKey_20 : decode cJ5_containsKey 20 = .ok (.iload 4, 2) := dk_21 4 (dk_at dksJ5_containsKey_0 20 rfl rfl)
theorem dJ5_containsKey_22 : decode cJ5_containsKey 22 = .ok (.aaload, 1) := dk_50 (dk_at dksJ5_containsKey_0 22 rfl rfl)
theorem dJ5_containsKey_23 : decode cJ5_containsKey 23 = .ok (.astore 5, 2) := dk_58 5 (dk_at dksJ5_containsKey_1 0 rfl rfl)
theorem dJ5_containsKey_25 : decode cJ5_containsKey 25 = .ok (.aload 5, 2) := dk_25 5 (dk_at dksJ5_containsKey_1 2 rfl rfl)
theorem dJ5_containsKey_27 : decode cJ5_containsKey 27 = .ok (.ifnull 36, 3) := dk_198 0 36 (dk_at dksJ5_containsKey_1 4 rfl rfl)
theorem dJ5_containsKey_30 : decode cJ5_containsKey 30 = .ok (.aload 5, 2) := dk_25 5 (dk_at dksJ5_containsKey_1 7 rfl rfl)
theorem dJ5_containsKey_32 : decode cJ5_containsKey 32 = .ok (.getfield 116, 3) := dk_180 0 116 (dk_at dksJ5_containsKey_1 9 rfl rfl)
theorem dJ5_containsKey_35 : decode cJ5_containsKey 35 = .ok (.iload_n 3, 1) := dk_29 (dk_at dksJ5_containsKey_1 12 rfl rfl)
theorem dJ5_containsKey_36 : decode cJ5_containsKey 36 = .ok (.if_icmp .ne 17, 3) := dk_160 0 17 (dk_at dksJ5_containsKey_1 13 rfl rfl)
theorem dJ5_containsKey_39 : decode cJ5_containsKey 39 = .ok (.aload 5, 2) := dk_25 5 (dk_at dksJ5_containsKey_1 16 rfl rfl)
theorem dJ5_containsKey_41 : decode cJ5_containsKey 41 = .ok (.getfield 119, 3) := dk_180 0 119 (dk_at dksJ5_containsKey_1 18 rfl rfl)
theorem dJ5_containsKey_44 : decode cJ5_containsKey 44 = .ok (.aload_n 1, 1) := dk_43 (dk_at dksJ5_containsKey_1 21 rfl rfl)
theorem dJ5_containsKey_45 : decode cJ5_containsKey 45 = .ok (.invokevirtual 99, 3) := dk_182 0 99 (dk_at dksJ5_containsKey_2 0 rfl rfl)
theorem dJ5_containsKey_48 : decode cJ5_containsKey 48 = .ok (.ifCond .eq 5, 3) := dk_153 0 5 (dk_at dksJ5_containsKey_2 3 rfl rfl)
theorem dJ5_containsKey_51 : decode cJ5_containsKey 51 = .ok (.iconst 1, 1) := dk_4 (dk_at dksJ5_containsKey_2 6 rfl rfl)
theorem dJ5_containsKey_52 : decode cJ5_containsKey 52 = .ok (.ireturn, 1) := dk_172 (dk_at dksJ5_containsKey_2 7 rfl rfl)
theorem dJ5_containsKey_53 : decode cJ5_containsKey 53 = .ok (.aload 5, 2) := dk_25 5 (dk_at dksJ5_containsKey_2 8 rfl rfl)
theorem dJ5_containsKey_55 : decode cJ5_containsKey 55 = .ok (.getfield 105, 3) := dk_180 0 105 (dk_at dksJ5_containsKey_2 10 rfl rfl)
theorem dJ5_containsKey_58 : decode cJ5_containsKey 58 = .ok (.astore 5, 2) := dk_58 5 (dk_at dksJ5_containsKey_2 13 rfl rfl)
theorem dJ5_containsKey_60 : decode cJ5_containsKey 60 = .ok (.goto (-35), 3) := dk_167 255 221 (dk_at dksJ5_containsKey_2 15 rfl rfl)
theorem dJ5_containsKey_63 : decode cJ5_containsKey 63 = .ok (.iconst 0, 1) := dk_3 (dk_at dksJ5_containsKey_2 18 rfl rfl)
theorem dJ5_containsKey_64 : decode cJ5_containsKey 64 = .ok (.ireturn, 1) := dk_172 (dk_at dksJ5_containsKey_2 19 rfl rfl)
abbrev cJ5_size : ByteArray := prog_23_method_6_code
def yJ5_size : MethodName := ⟨RJ5, "size", "()I"⟩
def dkwJ5_size_0 : List UInt8 := [42, 180, 0, 85, 172]
abbrev dktJ5_size_0 : List UInt8 := dkwJ5_size_0 ++ []
theorem dksJ5_size_0 : cJ5_size.data.toList.drop 0 = dktJ5_size_0 := by decide +kernel
theorem dJ5_size_0 : decode cJ5_size 0 = .ok (.aload_n 0, 1) := dk_42 (dk_at dksJ5_size_0 0 rfl rfl)
theorem dJ5_size_1 : decode cJ5_size 1 = .ok (.getfield 85, 3) := dk_180 0 85 (dk_at dksJ5_size_0 1 rfl rfl)
theorem dJ5_size_4 : decode cJ5_size 4 = .ok (.ireturn, 1) := dk_172 (dk_at dksJ5_size_0 4 rfl rfl)
abbrev cJ5_isEmpty : ByteArray := prog_23_method_7_code
def yJ5_isEmpty : MethodName := ⟨RJ5, "isEmpty", "()Z"⟩
def dkwJ5_isEmpty_0 : List UInt8 := [42, 180, 0, 85, 154, 0, 7, 4, 167, 0, 4, 3, 172]
abbrev dktJ5_isEmpty_0 : List UInt8 := dkwJ5_isEmpty_0 ++ []
theorem dksJ5_isEmpty_0 : cJ5_isEmpty.data.toList.drop 0 = dktJ5_isEmpty_0 := by decide +kernel
theorem dJ5_isEmpty_0 : decode cJ5_isEmpty 0 = .ok (.aload_n 0, 1) := dk_42 (dk_at dksJ5_isEmpty_0 0 rfl rfl)
theorem dJ5_isEmpty_1 : decode cJ5_isEmpty 1 = .ok (.getfield 85, 3) := dk_180 0 85 (dk_at dksJ5_isEmpty_0 1 rfl rfl)
theorem dJ5_isEmpty_4 : decode cJ5_isEmpty 4 = .ok (.ifCond .ne 7, 3) := dk_154 0 7 (dk_at dksJ5_isEmpty_0 4 rfl rfl)
theorem dJ5_isEmpty_7 : decode cJ5_isEmpty 7 = .ok (.iconst 1, 1) := dk_4 (dk_at dksJ5_isEmpty_0 7 rfl rfl)
theorem dJ5_isEmpty_8 : decode cJ5_isEmpty 8 = .ok (.goto 4, 3) := dk_167 0 4 (dk_at dksJ5_isEmpty_0 8 rfl rfl)
theorem dJ5_isEmpty_11 : decode cJ5_isEmpty 11 = .ok (.iconst 0, 1) := dk_3 (dk_at dksJ5_isEmpty_0 11 rfl rfl)
theorem dJ5_isEmpty_12 : decode cJ5_isEmpty 12 = .ok (.ireturn, 1) := dk_172 (dk_at dksJ5_isEmpty_0 12 rfl rfl)
abbrev cJ5_keys : ByteArray := prog_23_method_8_code
def yJ5_keys : MethodName := ⟨RJ5, "keys", "()Ljava/util/Enumeration;"⟩
def dkwJ5_keys_0 : List UInt8 := [42, 3, 182, 0, 88, 176]
abbrev dktJ5_keys_0 : List UInt8 := dkwJ5_keys_0 ++ []
theorem dksJ5_keys_0 : cJ5_keys.data.toList.drop 0 = dktJ5_keys_0 := by decide +kernel
theorem dJ5_keys_0 : decode cJ5_keys 0 = .ok (.aload_n 0, 1) := dk_42 (dk_at dksJ5_keys_0 0 rfl rfl)
theorem dJ5_keys_1 : decode cJ5_keys 1 = .ok (.iconst 0, 1) := dk_3 (dk_at dksJ5_keys_0 1 rfl rfl)
theorem dJ5_keys_2 : decode cJ5_keys 2 = .ok (.invokevirtual 88, 3) := dk_182 0 88 (dk_at dksJ5_keys_0 2 rfl rfl)
theorem dJ5_keys_5 : decode cJ5_keys 5 = .ok (.areturn, 1) := dk_176 (dk_at dksJ5_keys_0 5 rfl rfl)
end
section
/-! ===== THE VIEW: a heap without its monitors; the frame of a method by classes; the judgement over views ===== -/
set_option maxRecDepth 100000
/-- a cell without its monitor -/
def dv_er (c : Cell) : Cell := { c with monitor := {} }
abbrev dv_H : Type := Nat → Option Cell
def dv_ct (H : Heap) : dv_H := fun q => (H[q]?).map dv_er
def dv_up (h : dv_H) (a : Nat) (x : Cell) : dv_H := fun q => if q = a then some x else h q
theorem dv_up_self (h : dv_H) (a : Nat) (x : Cell) : dv_up h a x a = some x := if_pos rfl
theorem dv_up_ne {h : dv_H} {a q : Nat} {x : Cell} (hq : q ≠ a) : dv_up h a x q = h q := if_neg hq
theorem dv_up_up (h : dv_H) (a : Nat) (x y : Cell) : dv_up (dv_up h a x) a y = dv_up h a y := by
  funext q
  by_cases e : q = a <;> simp [dv_up, e]
theorem dv_cell {H : Heap} {a : Nat} {x : Cell} (h : dv_ct H a = some x) : ∃ c : Cell, H[a]? = some c ∧ dv_er c = x := by
  unfold dv_ct at h
  cases hc : H[a]? with
  | none => rw [hc] at h; cases h
  | some c => rw [hc] at h; exact ⟨c, rfl, Option.some.inj h⟩
theorem dv_none (H : Heap) : dv_ct H H.size = none := by simp [dv_ct]
theorem dv_lt {H : Heap} {a : Nat} {x : Cell} (h : dv_ct H a = some x) : a < H.size := by
  obtain ⟨c, h1, -⟩ := dv_cell h
  exact (Array.getElem?_eq_some_iff.mp h1).1
/-- monitors: old cells keep theirs, new cells have a free one -/
def dv_mo (H H1 : Heap) : Prop := H.size ≤ H1.size ∧ (∀ (q : Nat) (c : Cell), H[q]? = some c → ∃ c' : Cell, H1[q]? = some c' ∧ c'.monitor = c.monitor) ∧ ∀ (q : Nat) (c : Cell), H.size ≤ q → H1[q]? = some c → c.monitor.owner = none ∧ c.monitor.count = 0
theorem dv_mo.rf {H : Heap} : dv_mo H H := ⟨Nat.le_refl _, fun _ c h => ⟨c, h, rfl⟩, fun _ _ h1 h2 => absurd (Array.getElem?_eq_some_iff.mp h2).1 (Nat.not_lt.mpr h1)⟩
theorem dv_mo.trans {A B C : Heap} (h1 : dv_mo A B) (h2 : dv_mo B C) : dv_mo A C := by
  refine ⟨Nat.le_trans h1.1 h2.1, fun q c hc => ?_, fun q c hq hc => ?_⟩
  · obtain ⟨c1, e1, f1⟩ := h1.2.1 q c hc
    obtain ⟨c2, e2, f2⟩ := h2.2.1 q c1 e1
    exact ⟨c2, e2, f2.trans f1⟩
  · by_cases hb : q < B.size
    · have e1 : B[q]? = some B[q] := Array.getElem?_eq_getElem hb
      obtain ⟨c2, e2, f2⟩ := h2.2.1 q _ e1
      cases hc.symm.trans e2
      rw [f2]
      exact h1.2.2 q _ hq e1
    · exact h2.2.2 q c (Nat.not_lt.mp hb) hc
theorem dv_mo.set {A H H' : Heap} {a : Nat} {cell cell' : Cell} (h : dv_mo A H) (hc : H[a]? = some cell) (h1 : H'[a]? = some cell') (hm : cell'.monitor = cell.monitor) (hz : H'.size = H.size) (ho : ∀ q, q ≠ a → H'[q]? = H[q]?) : dv_mo A H' := by
  refine h.trans ⟨Nat.le_of_eq hz.symm, fun q c hq => ?_, fun q c hq hc' => ?_⟩
  · by_cases e : q = a
    · subst e
      cases hc.symm.trans hq
      exact ⟨cell', h1, hm⟩
    · exact ⟨c, by rw [ho q e]; exact hq, rfl⟩
  · have hl := (Array.getElem?_eq_some_iff.mp hc').1
    rw [hz] at hl
    exact absurd hl (Nat.not_lt.mpr hq)
theorem dv_mo.push {A H H' : Heap} {cell : Cell} (h : dv_mo A H) (h1 : H'[H.size]? = some cell) (hm : cell.monitor = {}) (hz : H'.size = H.size + 1) (ho : ∀ q, q < H.size → H'[q]? = H[q]?) : dv_mo A H' := by
  refine h.trans ⟨by omega, fun q c hq => ⟨c, by rw [ho q (Array.getElem?_eq_some_iff.mp hq).1]; exact hq, rfl⟩, fun q c hq hc' => ?_⟩
  have hl := (Array.getElem?_eq_some_iff.mp hc').1
  have e : q = H.size := by omega
  rw [e] at hc'
  cases h1.symm.trans hc'
  rw [hm]
  exact ⟨rfl, rfl⟩
theorem dv_ct_set {H H' : Heap} {a : Nat} {cell' : Cell} (h1 : H'[a]? = some cell') (ho : ∀ q, q ≠ a → H'[q]? = H[q]?) : dv_ct H' = dv_up (dv_ct H) a (dv_er cell') := by
  funext q
  by_cases e : q = a
  · rw [e, dv_up_self]
    simp [dv_ct, h1]
  · rw [dv_up_ne e]
    simp [dv_ct, ho q e]
theorem dv_ct_push {H H' : Heap} {cell : Cell} (h1 : H'[H.size]? = some cell) (hz : H'.size = H.size + 1) (ho : ∀ q, q < H.size → H'[q]? = H[q]?) : dv_ct H' = dv_up (dv_ct H) H.size (dv_er cell) := by
  funext q
  by_cases e : q = H.size
  · rw [e, dv_up_self]
    simp [dv_ct, h1]
  · rw [dv_up_ne e]
    by_cases hl : q < H.size
    · simp [dv_ct, ho q hl]
    · have a1 : H'[q]? = none := by rw [Array.getElem?_eq_none_iff]; omega
      have a2 : H[q]? = none := by rw [Array.getElem?_eq_none_iff]; omega
      simp [dv_ct, a1, a2]
/-- the monitor of a may be entered by the thread cu -/
def dv_en (cu : ThreadId) (a : Nat) (H : Heap) : Prop := ∃ c : Cell, H[a]? = some c ∧ c.enterable cu
theorem dv_en.mo {cu : ThreadId} {a : Nat} {H H1 : Heap} (h : dv_en cu a H) (m : dv_mo H H1) : dv_en cu a H1 := by
  obtain ⟨c, h1, h2⟩ := h
  obtain ⟨c', e1, e2⟩ := m.2.1 a c h1
  refine ⟨c', e1, ?_⟩
  unfold Cell.enterable at h2 ⊢
  rw [e2]
  exact h2
theorem dv_en.new {cu : ThreadId} {a : Nat} {H H1 : Heap} {x : Cell} (m : dv_mo H H1) (ha : H.size ≤ a) (hx : dv_ct H1 a = some x) : dv_en cu a H1 := by
  obtain ⟨c, h1, -⟩ := dv_cell hx
  exact ⟨c, h1, Or.inl (m.2.2 a c ha h1)⟩
/-- the frame: class and kind of every cell stay; what is old to the law, or of a class not in ks, stays whole -/
def dv_fr (lo : Nat) (ks : List ClassId) (h h1 : dv_H) : Prop := ∀ (q : Nat) (x : Cell), h q = some x → ∃ x' : Cell, h1 q = some x' ∧ x'.cls = x.cls ∧ x'.vm = x.vm ∧ ((q < lo ∨ x.cls ∉ ks) → x' = x)
theorem dv_fr.rf {lo : Nat} {ks : List ClassId} {h : dv_H} : dv_fr lo ks h h := fun _ x hx => ⟨x, hx, rfl, rfl, fun _ => rfl⟩
theorem dv_fr.trans {lo : Nat} {ks : List ClassId} {a b c : dv_H} (h1 : dv_fr lo ks a b) (h2 : dv_fr lo ks b c) : dv_fr lo ks a c := by
  intro q x hx
  obtain ⟨y, e1, f1, g1, i1⟩ := h1 q x hx
  obtain ⟨z, e2, f2, g2, i2⟩ := h2 q y e1
  exact ⟨z, e2, f2.trans f1, g2.trans g1, fun hq => (i2 (hq.imp id (fun w => by rw [f1]; exact w))).trans (i1 hq)⟩
theorem dv_fr.mono {lo : Nat} {ks ks' : List ClassId} {a b : dv_H} (h : dv_fr lo ks a b) (hk : ∀ k ∈ ks, k ∈ ks') : dv_fr lo ks' a b := by
  intro q x hx
  obtain ⟨y, e1, f1, g1, i1⟩ := h q x hx
  exact ⟨y, e1, f1, g1, fun hq => i1 (hq.imp id (fun w z => w (hk _ z)))⟩
theorem dv_fr.nil {lo : Nat} {ks : List ClassId} {a b : dv_H} (h : dv_fr lo [] a b) : dv_fr lo ks a b := h.mono (fun _ q => absurd q List.not_mem_nil)
theorem dv_fr.up {lo : Nat} {ks : List ClassId} {h : dv_H} {a : Nat} {x y : Cell} (hx : h a = some x) (hc : y.cls = x.cls) (hv : y.vm = x.vm) (hk : x.cls ∈ ks) (hl : lo ≤ a) : dv_fr lo ks h (dv_up h a y) := by
  intro q z hz
  by_cases e : q = a
  · subst e
    cases hx.symm.trans hz
    exact ⟨y, dv_up_self _ _ _, hc, hv, fun w => w.elim (fun w => absurd w (Nat.not_lt.mpr hl)) (fun w => absurd hk w)⟩
  · exact ⟨z, by rw [dv_up_ne e]; exact hz, rfl, rfl, fun _ => rfl⟩
theorem dv_fr.new {lo : Nat} {ks : List ClassId} {h : dv_H} {a : Nat} {y : Cell} (hx : h a = none) : dv_fr lo ks h (dv_up h a y) := by
  intro q z hz
  by_cases e : q = a
  · subst e
    cases hx.symm.trans hz
  · exact ⟨z, by rw [dv_up_ne e]; exact hz, rfl, rfl, fun _ => rfl⟩
theorem dv_fr.at {lo : Nat} {ks : List ClassId} {h h1 : dv_H} (f : dv_fr lo ks h h1) {q : Nat} {x : Cell} (hx : h q = some x) (hq : q < lo ∨ x.cls ∉ ks) : h1 q = some x := by
  obtain ⟨y, e1, -, -, i1⟩ := f q x hx
  rw [e1, i1 hq]
/-- a frame at pc, of a method that is synchronized on lk or not -/
abbrev dv_G (lk : Option Addr) (mr : Nat) (m : MethodId) (pc : Nat) (ls : List Slot) (st : List Value) : JFrame := { method := m, pc := pc, locals := ls.toArray, stack := st, locked := lk, monitorRoom := mr }
/-- the judgement W over views: for every heap with this view, monitors kept since the start, nothing below lo written -/
def dv_V (lo : Nat) (p : Program) (l : Launch) (e : Env) (R : Room) (s : State) (m : MethodId) (args : Array Value) (below : List Frame) (meth : Method) (c : Code) (h : dv_H) (k n : Nat) (Q : State → Prop) (g : JFrame) : Prop :=
  ∀ (H : Heap) (locs : List Loc), dv_ct H = h → dv_mo s.heap H → (∀ q ∈ locs, lo ≤ q.base) → W p l e R s m args below meth c H locs k n Q g
theorem dv_er_eq {c d : Cell} (h : dv_er c = dv_er d) (hm : c.monitor = d.monitor) : c = d := by
  obtain ⟨c1, c2, c3, c4, c5⟩ := c
  obtain ⟨d1, d2, d3, d4, d5⟩ := d
  simp_all [dv_er]
theorem dv_low {lo : Nat} {ks : List ClassId} {H0 H : Heap} (f : dv_fr lo ks (dv_ct H0) (dv_ct H)) (m : dv_mo H0 H) (hz : lo ≤ H0.size) : ∀ q : Nat, q < lo → H[q]? = H0[q]? := by
  intro q hq
  have hl : q < H0.size := Nat.lt_of_lt_of_le hq hz
  have e0 : H0[q]? = some H0[q] := Array.getElem?_eq_getElem hl
  have e1 : dv_ct H0 q = some (dv_er H0[q]) := by simp [dv_ct, e0]
  have e2 := f.at e1 (Or.inl hq)
  obtain ⟨c, h1, h2⟩ := dv_cell e2
  obtain ⟨c', h3, h4⟩ := m.2.1 q _ e0
  cases h1.symm.trans h3
  rw [h1, e0, dv_er_eq h2 h4]
end
section
/-! ===== rows of the pure instructions, over views, for frames of any kind (by gen_rows.py) ===== -/
section DVR
variable {lo : Nat} {p : Program} {l : Launch} {e : Env} {R : Room} {s : State} {m : MethodId} {args : Array Value} {below : List Frame} {meth : Method} {c : Code} {h : dv_H} {k n : Nat} {Q : State → Prop}
variable {lk : Option Addr} {mr : Nat} {pc nL : Nat} {ls : List Slot} {st : List Value} {cc : ByteArray} {own : String}
theorem dv_go {g g2 : JFrame} (hh : ∀ T, At T m c below → ∀ tg, Steps p.tables e below (T.setTop g2) tg → Steps p.tables e below (T.setTop g) tg) (kk : dv_V lo p l e R s m args below meth c h k n Q (g2)) : dv_V lo p l e R s m args below meth c h k n Q (g) := fun H locs h1 h2 h3 => W.go hh (kk H locs h1 h2 h3)
theorem dv_eq {g g2 : JFrame} (hh : g = g2) (kk : dv_V lo p l e R s m args below meth c h k n Q (g2)) : dv_V lo p l e R s m args below meth c h k n Q (g) := hh ▸ kk
theorem dv_widen {g : JFrame} {k' n' : Nat} (h1 : k ≤ k') (h2 : n ≤ n') (kk : dv_V lo p l e R s m args below meth c h k' n' Q g) : dv_V lo p l e R s m args below meth c h k n Q g := fun H locs a1 a2 a3 => W.widen h1 h2 (kk H locs a1 a2 a3)
theorem dv_iconst (cx : CallFix p m c cc nL s args lw_all own) {z : Int} {v : Int32} (hd : decode cc pc = .ok (.iconst z, 1)) (hv : Int32.ofInt z = v)
    (kk : dv_V lo p l e R s m args below meth c h k n Q (dv_G lk mr m (pc + 1) ls (.int v :: st))) : dv_V lo p l e R s m args below meth c h k n Q (dv_G lk mr m pc ls st) := by
  obtain ⟨hx, hb, -⟩ := cx
  subst hv
  refine dv_go (fun T X tg a => ?_) kk
  jvm_step X [X.top, hx, hb, hd]
  exact a
theorem dv_bipush (cx : CallFix p m c cc nL s args lw_all own) {z : Int} {v : Int32} (hd : decode cc pc = .ok (.bipush z, 2)) (hv : (Int8.ofInt z).toInt32 = v)
    (kk : dv_V lo p l e R s m args below meth c h k n Q (dv_G lk mr m (pc + 2) ls (.int v :: st))) : dv_V lo p l e R s m args below meth c h k n Q (dv_G lk mr m pc ls st) := by
  obtain ⟨hx, hb, -⟩ := cx
  subst hv
  refine dv_go (fun T X tg a => ?_) kk
  jvm_step X [X.top, hx, hb, hd]
  exact a
theorem dv_sipush (cx : CallFix p m c cc nL s args lw_all own) {z : Int} {v : Int32} (hd : decode cc pc = .ok (.sipush z, 3)) (hv : (Int16.ofInt z).toInt32 = v)
    (kk : dv_V lo p l e R s m args below meth c h k n Q (dv_G lk mr m (pc + 3) ls (.int v :: st))) : dv_V lo p l e R s m args below meth c h k n Q (dv_G lk mr m pc ls st) := by
  obtain ⟨hx, hb, -⟩ := cx
  subst hv
  refine dv_go (fun T X tg a => ?_) kk
  jvm_step X [X.top, hx, hb, hd]
  exact a
theorem dv_null (cx : CallFix p m c cc nL s args lw_all own)  (hd : decode cc pc = .ok (.aconst_null, 1)) 
    (kk : dv_V lo p l e R s m args below meth c h k n Q (dv_G lk mr m (pc + 1) ls (.null :: st))) : dv_V lo p l e R s m args below meth c h k n Q (dv_G lk mr m pc ls st) := by
  obtain ⟨hx, hb, -⟩ := cx
  refine dv_go (fun T X tg a => ?_) kk
  jvm_step X [X.top, hx, hb, hd, Op.aconst_null.sem]
  exact a
theorem dv_iload_n (cx : CallFix p m c cc nL s args lw_all own) {f : Fin 4} {i : Nat} {x : Int32} (hd : decode cc pc = .ok (.iload_n f, 1)) (hi : (f : Nat) = i) (hl : ls[i]? = some (.val (.int x)))
    (kk : dv_V lo p l e R s m args below meth c h k n Q (dv_G lk mr m (pc + 1) ls (.int x :: st))) : dv_V lo p l e R s m args below meth c h k n Q (dv_G lk mr m pc ls st) := by
  obtain ⟨hx, hb, -⟩ := cx
  subst hi
  refine dv_go (fun T X tg a => ?_) kk
  jvm_step X [X.top, hx, hb, hd, hl]
  exact a
theorem dv_iload (cx : CallFix p m c cc nL s args lw_all own) {i : Nat} {x : Int32} (hd : decode cc pc = .ok (.iload i, 2)) (hl : ls[i]? = some (.val (.int x)))
    (kk : dv_V lo p l e R s m args below meth c h k n Q (dv_G lk mr m (pc + 2) ls (.int x :: st))) : dv_V lo p l e R s m args below meth c h k n Q (dv_G lk mr m pc ls st) := by
  obtain ⟨hx, hb, -⟩ := cx
  refine dv_go (fun T X tg a => ?_) kk
  jvm_step X [X.top, hx, hb, hd, hl]
  exact a
theorem dv_fload_n (cx : CallFix p m c cc nL s args lw_all own) {f : Fin 4} {i : Nat} {x : UInt32} (hd : decode cc pc = .ok (.fload_n f, 1)) (hi : (f : Nat) = i) (hl : ls[i]? = some (.val (.float x)))
    (kk : dv_V lo p l e R s m args below meth c h k n Q (dv_G lk mr m (pc + 1) ls (.float x :: st))) : dv_V lo p l e R s m args below meth c h k n Q (dv_G lk mr m pc ls st) := by
  obtain ⟨hx, hb, -⟩ := cx
  subst hi
  refine dv_go (fun T X tg a => ?_) kk
  jvm_step X [X.top, hx, hb, hd, hl, Op.fload_n.sem]
  exact a
theorem dv_fload (cx : CallFix p m c cc nL s args lw_all own) {i : Nat} {x : UInt32} (hd : decode cc pc = .ok (.fload i, 2)) (hl : ls[i]? = some (.val (.float x)))
    (kk : dv_V lo p l e R s m args below meth c h k n Q (dv_G lk mr m (pc + 2) ls (.float x :: st))) : dv_V lo p l e R s m args below meth c h k n Q (dv_G lk mr m pc ls st) := by
  obtain ⟨hx, hb, -⟩ := cx
  refine dv_go (fun T X tg a => ?_) kk
  jvm_step X [X.top, hx, hb, hd, hl, Op.fload.sem]
  exact a
theorem dv_aload_n (cx : CallFix p m c cc nL s args lw_all own) {f : Fin 4} {i : Nat} {v : Value} (hd : decode cc pc = .ok (.aload_n f, 1)) (hi : (f : Nat) = i) (hl : ls[i]? = some (.val v)) (hv : v.isRef = true)
    (kk : dv_V lo p l e R s m args below meth c h k n Q (dv_G lk mr m (pc + 1) ls (v :: st))) : dv_V lo p l e R s m args below meth c h k n Q (dv_G lk mr m pc ls st) := by
  obtain ⟨hx, hb, -⟩ := cx
  subst hi
  refine dv_go (fun T X tg a => ?_) kk
  jvm_step X [X.top, hx, hb, hd, hl, hv]
  exact a
theorem dv_aload (cx : CallFix p m c cc nL s args lw_all own) {i : Nat} {v : Value} (hd : decode cc pc = .ok (.aload i, 2)) (hl : ls[i]? = some (.val v)) (hv : v.isRef = true)
    (kk : dv_V lo p l e R s m args below meth c h k n Q (dv_G lk mr m (pc + 2) ls (v :: st))) : dv_V lo p l e R s m args below meth c h k n Q (dv_G lk mr m pc ls st) := by
  obtain ⟨hx, hb, -⟩ := cx
  refine dv_go (fun T X tg a => ?_) kk
  jvm_step X [X.top, hx, hb, hd, hl, hv]
  exact a
/-- a slot that a value of one word may go to -/
def dv_c1 : Option Slot → Bool
  | some .unset => true
  | some (.val v) => v.category == 1
  | _ => false
theorem dv_store {ls : List Slot} {i : Nat} {v : Value} (hz : dv_c1 ls[i]? = true) (hv : v.category = 1) : storeLocals ls.toArray i v = some (ls.set i (.val v)).toArray := by
  cases hs : ls[i]? with
  | none => rw [hs] at hz; cases hz
  | some z =>
    rw [hs] at hz
    have h1 : ls.toArray[i]? = some z := by simpa using hs
    rw [storeLocals_cat1 h1 hv (by cases z with | unset => trivial | second => cases hz | val w => simpa [dv_c1] using hz)]
    simp
theorem dv_istore_n (cx : CallFix p m c cc nL s args lw_all own) {f : Fin 4} {i : Nat} {x : Int32} (hd : decode cc pc = .ok (.istore_n f, 1)) (hi : (f : Nat) = i) (hz : dv_c1 ls[i]? = true)
    (kk : dv_V lo p l e R s m args below meth c h k n Q (dv_G lk mr m (pc + 1) (ls.set i (.val (.int x))) st)) : dv_V lo p l e R s m args below meth c h k n Q (dv_G lk mr m pc ls (.int x :: st)) := by
  obtain ⟨hx, hb, -⟩ := cx
  subst hi
  have e' := dv_store (v := .int x) hz rfl
  refine dv_go (fun T X tg a => ?_) kk
  jvm_step X [X.top, hx, hb, hd, ↓top_set X.top, e']
  exact a
theorem dv_istore (cx : CallFix p m c cc nL s args lw_all own) {i : Nat} {x : Int32} (hd : decode cc pc = .ok (.istore i, 2)) (hz : dv_c1 ls[i]? = true)
    (kk : dv_V lo p l e R s m args below meth c h k n Q (dv_G lk mr m (pc + 2) (ls.set i (.val (.int x))) st)) : dv_V lo p l e R s m args below meth c h k n Q (dv_G lk mr m pc ls (.int x :: st)) := by
  obtain ⟨hx, hb, -⟩ := cx
  have e' := dv_store (v := .int x) hz rfl
  refine dv_go (fun T X tg a => ?_) kk
  jvm_step X [X.top, hx, hb, hd, ↓top_set X.top, e']
  exact a
theorem dv_astore_n (cx : CallFix p m c cc nL s args lw_all own) {f : Fin 4} {i : Nat} {v : Value} (hd : decode cc pc = .ok (.astore_n f, 1)) (hi : (f : Nat) = i) (hz : dv_c1 ls[i]? = true) (hr : v.isRef = true) (hc : v.category = 1)
    (kk : dv_V lo p l e R s m args below meth c h k n Q (dv_G lk mr m (pc + 1) (ls.set i (.val v)) st)) : dv_V lo p l e R s m args below meth c h k n Q (dv_G lk mr m pc ls (v :: st)) := by
  obtain ⟨hx, hb, -⟩ := cx
  subst hi
  have e' := dv_store (v := v) hz hc
  refine dv_go (fun T X tg a => ?_) kk
  jvm_step X [X.top, hx, hb, hd, ↓top_set X.top, e', hr]
  exact a
theorem dv_astore (cx : CallFix p m c cc nL s args lw_all own) {i : Nat} {v : Value} (hd : decode cc pc = .ok (.astore i, 2)) (hz : dv_c1 ls[i]? = true) (hr : v.isRef = true) (hc : v.category = 1)
    (kk : dv_V lo p l e R s m args below meth c h k n Q (dv_G lk mr m (pc + 2) (ls.set i (.val v)) st)) : dv_V lo p l e R s m args below meth c h k n Q (dv_G lk mr m pc ls (v :: st)) := by
  obtain ⟨hx, hb, -⟩ := cx
  have e' := dv_store (v := v) hz hc
  refine dv_go (fun T X tg a => ?_) kk
  jvm_step X [X.top, hx, hb, hd, ↓top_set X.top, e', hr]
  exact a
theorem dv_iinc (cx : CallFix p m c cc nL s args lw_all own) {i : Nat} {z : Int} {x v : Int32} (hd : decode cc pc = .ok (.iinc i z, 3)) (hl : ls[i]? = some (.val (.int x))) (hv : x + Int32.ofInt z = v)
    (kk : dv_V lo p l e R s m args below meth c h k n Q (dv_G lk mr m (pc + 3) (ls.set i (.val (.int v))) st)) : dv_V lo p l e R s m args below meth c h k n Q (dv_G lk mr m pc ls st) := by
  obtain ⟨hx, hb, -⟩ := cx
  subst hv
  have e' := dv_store (v := .int (x + Int32.ofInt z)) (ls := ls) (i := i) (by rw [hl]; rfl) rfl
  refine dv_go (fun T X tg a => ?_) kk
  jvm_step X [X.top, hx, hb, hd, ↓top_set X.top, hl, e']
  exact a
theorem dv_iadd (cx : CallFix p m c cc nL s args lw_all own) {x y v : Int32} (hd : decode cc pc = .ok (.iadd, 1)) (hv : x + y = v)
    (kk : dv_V lo p l e R s m args below meth c h k n Q (dv_G lk mr m (pc + 1) ls (.int v :: st))) : dv_V lo p l e R s m args below meth c h k n Q (dv_G lk mr m pc ls (.int y :: .int x :: st)) := by
  obtain ⟨hx, hb, -⟩ := cx
  subst hv
  refine dv_go (fun T X tg a => ?_) kk
  jvm_step X [X.top, hx, hb, hd]
  exact a
theorem dv_isub (cx : CallFix p m c cc nL s args lw_all own) {x y v : Int32} (hd : decode cc pc = .ok (.isub, 1)) (hv : x - y = v)
    (kk : dv_V lo p l e R s m args below meth c h k n Q (dv_G lk mr m (pc + 1) ls (.int v :: st))) : dv_V lo p l e R s m args below meth c h k n Q (dv_G lk mr m pc ls (.int y :: .int x :: st)) := by
  obtain ⟨hx, hb, -⟩ := cx
  subst hv
  refine dv_go (fun T X tg a => ?_) kk
  jvm_step X [X.top, hx, hb, hd]
  exact a
theorem dv_imul (cx : CallFix p m c cc nL s args lw_all own) {x y v : Int32} (hd : decode cc pc = .ok (.imul, 1)) (hv : x * y = v)
    (kk : dv_V lo p l e R s m args below meth c h k n Q (dv_G lk mr m (pc + 1) ls (.int v :: st))) : dv_V lo p l e R s m args below meth c h k n Q (dv_G lk mr m pc ls (.int y :: .int x :: st)) := by
  obtain ⟨hx, hb, -⟩ := cx
  subst hv
  refine dv_go (fun T X tg a => ?_) kk
  jvm_step X [X.top, hx, hb, hd]
  exact a
theorem dv_iand (cx : CallFix p m c cc nL s args lw_all own) {x y v : Int32} (hd : decode cc pc = .ok (.iand, 1)) (hv : x &&& y = v)
    (kk : dv_V lo p l e R s m args below meth c h k n Q (dv_G lk mr m (pc + 1) ls (.int v :: st))) : dv_V lo p l e R s m args below meth c h k n Q (dv_G lk mr m pc ls (.int y :: .int x :: st)) := by
  obtain ⟨hx, hb, -⟩ := cx
  subst hv
  refine dv_go (fun T X tg a => ?_) kk
  jvm_step X [X.top, hx, hb, hd]
  exact a
theorem dv_ior (cx : CallFix p m c cc nL s args lw_all own) {x y v : Int32} (hd : decode cc pc = .ok (.ior, 1)) (hv : x ||| y = v)
    (kk : dv_V lo p l e R s m args below meth c h k n Q (dv_G lk mr m (pc + 1) ls (.int v :: st))) : dv_V lo p l e R s m args below meth c h k n Q (dv_G lk mr m pc ls (.int y :: .int x :: st)) := by
  obtain ⟨hx, hb, -⟩ := cx
  subst hv
  refine dv_go (fun T X tg a => ?_) kk
  jvm_step X [X.top, hx, hb, hd]
  exact a
theorem dv_ixor (cx : CallFix p m c cc nL s args lw_all own) {x y v : Int32} (hd : decode cc pc = .ok (.ixor, 1)) (hv : x ^^^ y = v)
    (kk : dv_V lo p l e R s m args below meth c h k n Q (dv_G lk mr m (pc + 1) ls (.int v :: st))) : dv_V lo p l e R s m args below meth c h k n Q (dv_G lk mr m pc ls (.int y :: .int x :: st)) := by
  obtain ⟨hx, hb, -⟩ := cx
  subst hv
  refine dv_go (fun T X tg a => ?_) kk
  jvm_step X [X.top, hx, hb, hd]
  exact a
theorem dv_ishl (cx : CallFix p m c cc nL s args lw_all own) {x y v : Int32} (hd : decode cc pc = .ok (.ishl, 1)) (hv : x <<< (y &&& 31) = v)
    (kk : dv_V lo p l e R s m args below meth c h k n Q (dv_G lk mr m (pc + 1) ls (.int v :: st))) : dv_V lo p l e R s m args below meth c h k n Q (dv_G lk mr m pc ls (.int y :: .int x :: st)) := by
  obtain ⟨hx, hb, -⟩ := cx
  subst hv
  refine dv_go (fun T X tg a => ?_) kk
  jvm_step X [X.top, hx, hb, hd]
  exact a
theorem dv_ishr (cx : CallFix p m c cc nL s args lw_all own) {x y v : Int32} (hd : decode cc pc = .ok (.ishr, 1)) (hv : x >>> (y &&& 31) = v)
    (kk : dv_V lo p l e R s m args below meth c h k n Q (dv_G lk mr m (pc + 1) ls (.int v :: st))) : dv_V lo p l e R s m args below meth c h k n Q (dv_G lk mr m pc ls (.int y :: .int x :: st)) := by
  obtain ⟨hx, hb, -⟩ := cx
  subst hv
  refine dv_go (fun T X tg a => ?_) kk
  jvm_step X [X.top, hx, hb, hd]
  exact a
theorem dv_irem (cx : CallFix p m c cc nL s args lw_all own) {x y v : Int32} (hd : decode cc pc = .ok (.irem, 1)) (hne : ¬ y = 0) (hv : x - x / y * y = v)
    (kk : dv_V lo p l e R s m args below meth c h k n Q (dv_G lk mr m (pc + 1) ls (.int v :: st))) : dv_V lo p l e R s m args below meth c h k n Q (dv_G lk mr m pc ls (.int y :: .int x :: st)) := by
  obtain ⟨hx, hb, -⟩ := cx
  subst hv
  refine dv_go (fun T X tg a => ?_) kk
  jvm_step X [X.top, hx, hb, hd, hne]
  exact a
theorem dv_dup (cx : CallFix p m c cc nL s args lw_all own) {v : Value} (hd : decode cc pc = .ok (.dup, 1)) (hv : v.category = 1)
    (kk : dv_V lo p l e R s m args below meth c h k n Q (dv_G lk mr m (pc + 1) ls (v :: v :: st))) : dv_V lo p l e R s m args below meth c h k n Q (dv_G lk mr m pc ls (v :: st)) := by
  obtain ⟨hx, hb, -⟩ := cx
  refine dv_go (fun T X tg a => ?_) kk
  jvm_step X [X.top, hx, hb, hd, hv]
  exact a
theorem dv_dup_x1 (cx : CallFix p m c cc nL s args lw_all own) {v u : Value} (hd : decode cc pc = .ok (.dup_x1, 1)) (hv : v.category = 1) (hu : u.category = 1)
    (kk : dv_V lo p l e R s m args below meth c h k n Q (dv_G lk mr m (pc + 1) ls (v :: u :: v :: st))) : dv_V lo p l e R s m args below meth c h k n Q (dv_G lk mr m pc ls (v :: u :: st)) := by
  obtain ⟨hx, hb, -⟩ := cx
  refine dv_go (fun T X tg a => ?_) kk
  jvm_step X [X.top, hx, hb, hd, hv, hu]
  exact a
theorem dv_goto (cx : CallFix p m c cc nL s args lw_all own) {off : Int} {tgt : Nat} (hd : decode cc pc = .ok (.goto off, 3)) (ht : (pc : Int) + off = (tgt : Int))
    (kk : dv_V lo p l e R s m args below meth c h k n Q (dv_G lk mr m tgt ls st)) : dv_V lo p l e R s m args below meth c h k n Q (dv_G lk mr m pc ls st) := by
  obtain ⟨hx, hb, -⟩ := cx
  refine dv_go (fun T X tg a => ?_) kk
  jvm_step X [X.top, hx, hb, hd, ht]
  exact a
theorem dv_if_eq (cx : CallFix p m c cc nL s args lw_all own) {x : Int32} {off : Int} {tgt : Nat} (hd : decode cc pc = .ok (.ifCond .eq off, 3)) (ht : (pc : Int) + off = (tgt : Int))
    (kt : x = 0 → dv_V lo p l e R s m args below meth c h k n Q (dv_G lk mr m tgt ls st)) (kf : ¬ (x = 0) → dv_V lo p l e R s m args below meth c h k n Q (dv_G lk mr m (pc + 3) ls st)) : dv_V lo p l e R s m args below meth c h k n Q (dv_G lk mr m pc ls (.int x :: st)) := by
  obtain ⟨hx, hb, -⟩ := cx
  by_cases hP : x = 0
  · refine dv_go (fun T X tg a => ?_) (kt hP)
    jvm_step X [X.top, hx, hb, hd, Op.ifCond.holds, hP, ht]
    exact a
  · refine dv_go (fun T X tg a => ?_) (kf hP)
    jvm_step X [X.top, hx, hb, hd, Op.ifCond.holds, hP, ht]
    exact a
theorem dv_icmp_eq (cx : CallFix p m c cc nL s args lw_all own) {x y : Int32} {off : Int} {tgt : Nat} (hd : decode cc pc = .ok (.if_icmp .eq off, 3)) (ht : (pc : Int) + off = (tgt : Int))
    (kt : x = y → dv_V lo p l e R s m args below meth c h k n Q (dv_G lk mr m tgt ls st)) (kf : ¬ (x = y) → dv_V lo p l e R s m args below meth c h k n Q (dv_G lk mr m (pc + 3) ls st)) : dv_V lo p l e R s m args below meth c h k n Q (dv_G lk mr m pc ls (.int y :: .int x :: st)) := by
  obtain ⟨hx, hb, -⟩ := cx
  by_cases hP : x = y
  · refine dv_go (fun T X tg a => ?_) (kt hP)
    jvm_step X [X.top, hx, hb, hd, Op.if_icmp.holds, hP, ht]
    exact a
  · refine dv_go (fun T X tg a => ?_) (kf hP)
    jvm_step X [X.top, hx, hb, hd, Op.if_icmp.holds, hP, ht]
    exact a
theorem dv_if_ne (cx : CallFix p m c cc nL s args lw_all own) {x : Int32} {off : Int} {tgt : Nat} (hd : decode cc pc = .ok (.ifCond .ne off, 3)) (ht : (pc : Int) + off = (tgt : Int))
    (kt : ¬ x = 0 → dv_V lo p l e R s m args below meth c h k n Q (dv_G lk mr m tgt ls st)) (kf : x = 0 → dv_V lo p l e R s m args below meth c h k n Q (dv_G lk mr m (pc + 3) ls st)) : dv_V lo p l e R s m args below meth c h k n Q (dv_G lk mr m pc ls (.int x :: st)) := by
  obtain ⟨hx, hb, -⟩ := cx
  by_cases hP : x = 0
  · refine dv_go (fun T X tg a => ?_) (kf hP)
    jvm_step X [X.top, hx, hb, hd, Op.ifCond.holds, hP, ht]
    exact a
  · refine dv_go (fun T X tg a => ?_) (kt hP)
    jvm_step X [X.top, hx, hb, hd, Op.ifCond.holds, hP, ht]
    exact a
theorem dv_icmp_ne (cx : CallFix p m c cc nL s args lw_all own) {x y : Int32} {off : Int} {tgt : Nat} (hd : decode cc pc = .ok (.if_icmp .ne off, 3)) (ht : (pc : Int) + off = (tgt : Int))
    (kt : ¬ x = y → dv_V lo p l e R s m args below meth c h k n Q (dv_G lk mr m tgt ls st)) (kf : x = y → dv_V lo p l e R s m args below meth c h k n Q (dv_G lk mr m (pc + 3) ls st)) : dv_V lo p l e R s m args below meth c h k n Q (dv_G lk mr m pc ls (.int y :: .int x :: st)) := by
  obtain ⟨hx, hb, -⟩ := cx
  by_cases hP : x = y
  · refine dv_go (fun T X tg a => ?_) (kf hP)
    jvm_step X [X.top, hx, hb, hd, Op.if_icmp.holds, hP, ht]
    exact a
  · refine dv_go (fun T X tg a => ?_) (kt hP)
    jvm_step X [X.top, hx, hb, hd, Op.if_icmp.holds, hP, ht]
    exact a
theorem dv_if_lt (cx : CallFix p m c cc nL s args lw_all own) {x : Int32} {off : Int} {tgt : Nat} (hd : decode cc pc = .ok (.ifCond .lt off, 3)) (ht : (pc : Int) + off = (tgt : Int))
    (kt : x < 0 → dv_V lo p l e R s m args below meth c h k n Q (dv_G lk mr m tgt ls st)) (kf : ¬ (x < 0) → dv_V lo p l e R s m args below meth c h k n Q (dv_G lk mr m (pc + 3) ls st)) : dv_V lo p l e R s m args below meth c h k n Q (dv_G lk mr m pc ls (.int x :: st)) := by
  obtain ⟨hx, hb, -⟩ := cx
  by_cases hP : x < 0
  · refine dv_go (fun T X tg a => ?_) (kt hP)
    jvm_step X [X.top, hx, hb, hd, Op.ifCond.holds, hP, ht]
    exact a
  · refine dv_go (fun T X tg a => ?_) (kf hP)
    jvm_step X [X.top, hx, hb, hd, Op.ifCond.holds, hP, ht]
    exact a
theorem dv_icmp_lt (cx : CallFix p m c cc nL s args lw_all own) {x y : Int32} {off : Int} {tgt : Nat} (hd : decode cc pc = .ok (.if_icmp .lt off, 3)) (ht : (pc : Int) + off = (tgt : Int))
    (kt : x < y → dv_V lo p l e R s m args below meth c h k n Q (dv_G lk mr m tgt ls st)) (kf : ¬ (x < y) → dv_V lo p l e R s m args below meth c h k n Q (dv_G lk mr m (pc + 3) ls st)) : dv_V lo p l e R s m args below meth c h k n Q (dv_G lk mr m pc ls (.int y :: .int x :: st)) := by
  obtain ⟨hx, hb, -⟩ := cx
  by_cases hP : x < y
  · refine dv_go (fun T X tg a => ?_) (kt hP)
    jvm_step X [X.top, hx, hb, hd, Op.if_icmp.holds, hP, ht]
    exact a
  · refine dv_go (fun T X tg a => ?_) (kf hP)
    jvm_step X [X.top, hx, hb, hd, Op.if_icmp.holds, hP, ht]
    exact a
theorem dv_if_ge (cx : CallFix p m c cc nL s args lw_all own) {x : Int32} {off : Int} {tgt : Nat} (hd : decode cc pc = .ok (.ifCond .ge off, 3)) (ht : (pc : Int) + off = (tgt : Int))
    (kt : 0 ≤ x → dv_V lo p l e R s m args below meth c h k n Q (dv_G lk mr m tgt ls st)) (kf : ¬ (0 ≤ x) → dv_V lo p l e R s m args below meth c h k n Q (dv_G lk mr m (pc + 3) ls st)) : dv_V lo p l e R s m args below meth c h k n Q (dv_G lk mr m pc ls (.int x :: st)) := by
  obtain ⟨hx, hb, -⟩ := cx
  by_cases hP : 0 ≤ x
  · refine dv_go (fun T X tg a => ?_) (kt hP)
    jvm_step X [X.top, hx, hb, hd, Op.ifCond.holds, hP, ht]
    exact a
  · refine dv_go (fun T X tg a => ?_) (kf hP)
    jvm_step X [X.top, hx, hb, hd, Op.ifCond.holds, hP, ht]
    exact a
theorem dv_icmp_ge (cx : CallFix p m c cc nL s args lw_all own) {x y : Int32} {off : Int} {tgt : Nat} (hd : decode cc pc = .ok (.if_icmp .ge off, 3)) (ht : (pc : Int) + off = (tgt : Int))
    (kt : y ≤ x → dv_V lo p l e R s m args below meth c h k n Q (dv_G lk mr m tgt ls st)) (kf : ¬ (y ≤ x) → dv_V lo p l e R s m args below meth c h k n Q (dv_G lk mr m (pc + 3) ls st)) : dv_V lo p l e R s m args below meth c h k n Q (dv_G lk mr m pc ls (.int y :: .int x :: st)) := by
  obtain ⟨hx, hb, -⟩ := cx
  by_cases hP : y ≤ x
  · refine dv_go (fun T X tg a => ?_) (kt hP)
    jvm_step X [X.top, hx, hb, hd, Op.if_icmp.holds, hP, ht]
    exact a
  · refine dv_go (fun T X tg a => ?_) (kf hP)
    jvm_step X [X.top, hx, hb, hd, Op.if_icmp.holds, hP, ht]
    exact a
theorem dv_if_gt (cx : CallFix p m c cc nL s args lw_all own) {x : Int32} {off : Int} {tgt : Nat} (hd : decode cc pc = .ok (.ifCond .gt off, 3)) (ht : (pc : Int) + off = (tgt : Int))
    (kt : 0 < x → dv_V lo p l e R s m args below meth c h k n Q (dv_G lk mr m tgt ls st)) (kf : ¬ (0 < x) → dv_V lo p l e R s m args below meth c h k n Q (dv_G lk mr m (pc + 3) ls st)) : dv_V lo p l e R s m args below meth c h k n Q (dv_G lk mr m pc ls (.int x :: st)) := by
  obtain ⟨hx, hb, -⟩ := cx
  by_cases hP : 0 < x
  · refine dv_go (fun T X tg a => ?_) (kt hP)
    jvm_step X [X.top, hx, hb, hd, Op.ifCond.holds, hP, ht]
    exact a
  · refine dv_go (fun T X tg a => ?_) (kf hP)
    jvm_step X [X.top, hx, hb, hd, Op.ifCond.holds, hP, ht]
    exact a
theorem dv_icmp_gt (cx : CallFix p m c cc nL s args lw_all own) {x y : Int32} {off : Int} {tgt : Nat} (hd : decode cc pc = .ok (.if_icmp .gt off, 3)) (ht : (pc : Int) + off = (tgt : Int))
    (kt : y < x → dv_V lo p l e R s m args below meth c h k n Q (dv_G lk mr m tgt ls st)) (kf : ¬ (y < x) → dv_V lo p l e R s m args below meth c h k n Q (dv_G lk mr m (pc + 3) ls st)) : dv_V lo p l e R s m args below meth c h k n Q (dv_G lk mr m pc ls (.int y :: .int x :: st)) := by
  obtain ⟨hx, hb, -⟩ := cx
  by_cases hP : y < x
  · refine dv_go (fun T X tg a => ?_) (kt hP)
    jvm_step X [X.top, hx, hb, hd, Op.if_icmp.holds, hP, ht]
    exact a
  · refine dv_go (fun T X tg a => ?_) (kf hP)
    jvm_step X [X.top, hx, hb, hd, Op.if_icmp.holds, hP, ht]
    exact a
theorem dv_if_le (cx : CallFix p m c cc nL s args lw_all own) {x : Int32} {off : Int} {tgt : Nat} (hd : decode cc pc = .ok (.ifCond .le off, 3)) (ht : (pc : Int) + off = (tgt : Int))
    (kt : x ≤ 0 → dv_V lo p l e R s m args below meth c h k n Q (dv_G lk mr m tgt ls st)) (kf : ¬ (x ≤ 0) → dv_V lo p l e R s m args below meth c h k n Q (dv_G lk mr m (pc + 3) ls st)) : dv_V lo p l e R s m args below meth c h k n Q (dv_G lk mr m pc ls (.int x :: st)) := by
  obtain ⟨hx, hb, -⟩ := cx
  by_cases hP : x ≤ 0
  · refine dv_go (fun T X tg a => ?_) (kt hP)
    jvm_step X [X.top, hx, hb, hd, Op.ifCond.holds, hP, ht]
    exact a
  · refine dv_go (fun T X tg a => ?_) (kf hP)
    jvm_step X [X.top, hx, hb, hd, Op.ifCond.holds, hP, ht]
    exact a
theorem dv_icmp_le (cx : CallFix p m c cc nL s args lw_all own) {x y : Int32} {off : Int} {tgt : Nat} (hd : decode cc pc = .ok (.if_icmp .le off, 3)) (ht : (pc : Int) + off = (tgt : Int))
    (kt : x ≤ y → dv_V lo p l e R s m args below meth c h k n Q (dv_G lk mr m tgt ls st)) (kf : ¬ (x ≤ y) → dv_V lo p l e R s m args below meth c h k n Q (dv_G lk mr m (pc + 3) ls st)) : dv_V lo p l e R s m args below meth c h k n Q (dv_G lk mr m pc ls (.int y :: .int x :: st)) := by
  obtain ⟨hx, hb, -⟩ := cx
  by_cases hP : x ≤ y
  · refine dv_go (fun T X tg a => ?_) (kt hP)
    jvm_step X [X.top, hx, hb, hd, Op.if_icmp.holds, hP, ht]
    exact a
  · refine dv_go (fun T X tg a => ?_) (kf hP)
    jvm_step X [X.top, hx, hb, hd, Op.if_icmp.holds, hP, ht]
    exact a
theorem dv_ifnonnull (cx : CallFix p m c cc nL s args lw_all own) {x : Nat} {off : Int} {tgt : Nat} (hd : decode cc pc = .ok (.ifnonnull off, 3)) (ht : (pc : Int) + off = (tgt : Int))
    (kk : dv_V lo p l e R s m args below meth c h k n Q (dv_G lk mr m tgt ls st)) : dv_V lo p l e R s m args below meth c h k n Q (dv_G lk mr m pc ls (.ref x :: st)) := by
  obtain ⟨hx, hb, -⟩ := cx
  refine dv_go (fun T X tg a => ?_) kk
  jvm_step X [X.top, hx, hb, hd, ht, Value.isRef]
  exact a
theorem dv_ifnonnullN (cx : CallFix p m c cc nL s args lw_all own) {off : Int} (hd : decode cc pc = .ok (.ifnonnull off, 3)) 
    (kk : dv_V lo p l e R s m args below meth c h k n Q (dv_G lk mr m (pc + 3) ls st)) : dv_V lo p l e R s m args below meth c h k n Q (dv_G lk mr m pc ls (.null :: st)) := by
  obtain ⟨hx, hb, -⟩ := cx
  refine dv_go (fun T X tg a => ?_) kk
  jvm_step X [X.top, hx, hb, hd, Value.isRef]
  exact a
theorem dv_ifnull (cx : CallFix p m c cc nL s args lw_all own) {x : Nat} {off : Int} (hd : decode cc pc = .ok (.ifnull off, 3)) 
    (kk : dv_V lo p l e R s m args below meth c h k n Q (dv_G lk mr m (pc + 3) ls st)) : dv_V lo p l e R s m args below meth c h k n Q (dv_G lk mr m pc ls (.ref x :: st)) := by
  obtain ⟨hx, hb, -⟩ := cx
  refine dv_go (fun T X tg a => ?_) kk
  jvm_step X [X.top, hx, hb, hd, Value.isRef]
  exact a
theorem dv_ifnullN (cx : CallFix p m c cc nL s args lw_all own) {off : Int} {tgt : Nat} (hd : decode cc pc = .ok (.ifnull off, 3)) (ht : (pc : Int) + off = (tgt : Int))
    (kk : dv_V lo p l e R s m args below meth c h k n Q (dv_G lk mr m tgt ls st)) : dv_V lo p l e R s m args below meth c h k n Q (dv_G lk mr m pc ls (.null :: st)) := by
  obtain ⟨hx, hb, -⟩ := cx
  refine dv_go (fun T X tg a => ?_) kk
  jvm_step X [X.top, hx, hb, hd, ht, Value.isRef]
  exact a
end DVR
end
section
/-! ===== what is known all through: classes, array classes, the cache of Integers; rows for fields, arrays, new ===== -/
set_option maxRecDepth 100000
/-- class numbers and slots; addresses of the cached Integers; the cache; the mirror of Object[]; the law's first own address; the thread -/
abbrev dv_P : Type := va_G × (Nat → Nat) × Nat × Nat × Nat × ThreadId
abbrev dv_D (g : dv_P) : va_G := g.1
abbrev dv_ad (g : dv_P) : Nat → Nat := g.2.1
abbrev dv_ca (g : dv_P) : Nat := g.2.2.1
abbrev dv_mi (g : dv_P) : Nat := g.2.2.2.1
abbrev dv_lo (g : dv_P) : Nat := g.2.2.2.2.1
abbrev dv_cu (g : dv_P) : ThreadId := g.2.2.2.2.2
abbrev dv_k (g : dv_P) (i : Nat) : ClassId := g.1.1 i
/-- 0 LegacyDrill, 1 Stack, 2 Hashtable, 3 Entry, 4 Enumerator, 5 Integer; arrays: 10 Object[], 11 Entry[], 12 int[] -/
def dv_cl : List vw_C := [(RX0, TX0, 2), (RJ3, TJ3, 4), (RJ5, TJ5, 8), (RJ12, TJ12, 4), (RJ15, TJ15, 8), (RJ9, TJ9, 1)]
def dv_ty (g : dv_P) : List (ClassId × FieldType) := [(dv_k g 10, .object "java/lang/Object"), (dv_k g 11, .object "java/util/Hashtable$Entry"), (dv_k g 12, .int)]
abbrev dv_xHas : MethodName := ⟨"java/util/Enumeration", "hasMoreElements", "()Z"⟩
abbrev dv_xNext : MethodName := ⟨"java/util/Enumeration", "nextElement", "()Ljava/lang/Object;"⟩
abbrev dv_xEq : MethodName := ⟨"java/lang/Object", "equals", "(Ljava/lang/Object;)Z"⟩
abbrev dv_xHc : MethodName := ⟨"java/lang/Object", "hashCode", "()I"⟩
abbrev dv_wTab : Cond := .fieldLinkNest "java/util/Hashtable$Enumerator" 15 "java/util/Hashtable" "table" "[Ljava/util/Hashtable$Entry;" "java/util/Hashtable"
abbrev dv_wMod : Cond := .fieldLinkNest "java/util/Hashtable$Enumerator" 24 "java/util/Hashtable" "modCount" "I" "java/util/Hashtable"
/-- a private method is where it is named -/
def dv_pv (y : MethodName) (U : State) : Prop := ∃ (mk : MethodId) (mt : Method), U.methodNamed? y = some mk ∧ U.vm.method? mk = some mt ∧ mt.isPrivate = true
/-- the tables' part -/
def dv_Kt (g : dv_P) (U : State) : Prop :=
  va_K (dv_D g) dv_cl (dv_ty g) U ∧ va_AO "java/lang/Object" U ∧ va_AO "java/util/Hashtable$Entry" U ∧ va_Nw (.castable "java/lang/Integer" "java/lang/Object") U ∧ va_Nw dv_wTab U ∧ va_Nw dv_wMod U ∧
  va_Fw RJ15 dv_xHas yJ15_hasMoreElements U ∧ va_Fw RJ15 dv_xNext yJ15_nextElement U ∧ va_Nw (.declares dv_xEq) U ∧ va_Nw (.declares dv_xHc) U ∧ va_Dc U ∧ va_Mi "[Ljava/lang/Object;" (dv_mi g) U ∧
  dv_pv yJ2_add U ∧ dv_pv yJ2_grow U ∧ dv_pv yJ2_grow_2 U
/-- the old heap's part -/
def dv_Kh (g : dv_P) (U : State) : Prop :=
  va_Z "java/lang/Integer$IntegerCache" "high" "I" (.int 127) (fun q => dv_lo g ≤ q) U U.heap ∧ va_Z "java/lang/Integer$IntegerCache" "cache" "[Ljava/lang/Integer;" (.ref (dv_ca g)) (fun q => dv_lo g ≤ q) U U.heap ∧
  va_T (.object "java/lang/Integer") (dv_ca g) 256 (fun j => .ref (dv_ad g j)) (fun q => dv_lo g ≤ q) U U.heap ∧ vb_C (dv_ad g) (fun q => dv_lo g ≤ q) U U.heap
def dv_K (g : dv_P) (U : State) : Prop := U.cur = dv_cu g ∧ dv_lo g ≤ U.heap.size ∧ dv_Kt g U ∧ dv_Kh g U
theorem dv_pv.mv {y : MethodName} {s U : State} (hW : s.WarmedH U.vm) (h : dv_pv y s) : dv_pv y U := by
  obtain ⟨mk, mt, h1, h2, h3⟩ := h
  refine ⟨mk, mt, ?_, by rw [hW.alike.method?]; exact h2, h3⟩
  have e := State.methodNamed?_setVm (s := s) hW.alike y
  rw [← h1, ← e]
  rfl
theorem dv_Kt.mv {g : dv_P} {s U : State} (h : dv_Kt g s) (hW : s.WarmedH U.vm) : dv_Kt g U := by
  obtain ⟨a1, a2, a3, a4, a5, a6, a7, a8, a9, b1, b2, b3, b4, b5, b6⟩ := h
  exact ⟨va_K.moved hW.alike a1, va_AO.moved hW.alike a2, va_AO.moved hW.alike a3, va_Nw.warmC hW a4, va_Nw.warmF hW a5, va_Nw.warmF hW a6, va_Fw.moved ⟨by decide, by decide⟩ hW.alike a7, va_Fw.moved ⟨by decide, by decide⟩ hW.alike a8,
    va_Nw.warmD hW a9, va_Nw.warmD hW b1, va_Dc.moved hW.alike b2, va_Mi.moved hW.alike b3, dv_pv.mv hW b4, dv_pv.mv hW b5, dv_pv.mv hW b6⟩
theorem dv_Kh.mv {g : dv_P} {s U : State} (h : dv_Kh g s) (hvm : s.vm.Alike U.vm) (hl : ∀ q : Nat, q < dv_lo g → U.heap[q]? = s.heap[q]?) : dv_Kh g U := by
  have hq : ∀ a : Nat, a < s.heap.size → ¬ (dv_lo g ≤ a) → U.heap[a]? = s.heap[a]? := fun a _ h2 => hl a (Nat.not_le.mp h2)
  obtain ⟨a1, a2, a3, a4⟩ := h
  exact ⟨va_Z.kept (va_Z.moved hvm a1) hq, va_Z.kept (va_Z.moved hvm a2) hq, va_T.kept (va_T.moved hvm a3) hq, vb_C.kept (vb_C.moved hvm a4) hq⟩
theorem dv_K.mv {g : dv_P} {s U : State} (h : dv_K g s) (hW : s.WarmedH U.vm) (hc : U.cur = s.cur) (hz : dv_lo g ≤ U.heap.size) (hl : ∀ q : Nat, q < dv_lo g → U.heap[q]? = s.heap[q]?) : dv_K g U :=
  ⟨hc.trans h.1, hz, h.2.2.1.mv hW, h.2.2.2.mv hW.alike hl⟩
/-- an object at a: class number ci, N fields, they hold fs -/
def dv_ob (g : dv_P) (h : dv_H) (a ci N : Nat) (fs : List Value) : Prop := ∃ x : Cell, h a = some x ∧ x.cls = dv_k g ci ∧ x.vm = .none ∧ ∀ j, j < N → x.slots[(dv_D g).2 ci j]? = some (vp_V fs j)
theorem dv_ob.kept {g : dv_P} {h h1 : dv_H} {a ci N : Nat} {fs : List Value} (ho : dv_ob g h a ci N fs) (e : h1 a = h a) : dv_ob g h1 a ci N fs := by
  obtain ⟨x, h2, h3⟩ := ho
  exact ⟨x, by rw [e]; exact h2, h3⟩
theorem dv_ob.fr {g : dv_P} {h h1 : dv_H} {a ci N : Nat} {fs : List Value} {ks : List ClassId} (ho : dv_ob g h a ci N fs) (f : dv_fr (dv_lo g) ks h h1) (hk : dv_k g ci ∉ ks) : dv_ob g h1 a ci N fs := by
  obtain ⟨x, h2, h3, h4⟩ := ho
  exact ⟨x, f.at h2 (Or.inr (by rw [h3]; exact hk)), h3, h4⟩
/-- one cell has been written; its class and kind stay -/
def dv_st (a : Nat) (h h1 : dv_H) : Prop := ∃ x y : Cell, h a = some x ∧ y.cls = x.cls ∧ y.vm = x.vm ∧ h1 = dv_up h a y
theorem dv_st.ne {a q : Nat} {h h1 : dv_H} (s : dv_st a h h1) (hq : q ≠ a) : h1 q = h q := by
  obtain ⟨x, y, -, -, -, e⟩ := s
  rw [e, dv_up_ne hq]
theorem dv_st.fr {a lo : Nat} {h h1 : dv_H} {ks : List ClassId} {x : Cell} (s : dv_st a h h1) (hx : h a = some x) (hk : x.cls ∈ ks) (hl : lo ≤ a) : dv_fr lo ks h h1 := by
  obtain ⟨x', y, e1, e2, e3, e4⟩ := s
  cases hx.symm.trans e1
  rw [e4]
  exact dv_fr.up hx e2 e3 hk hl
theorem dv_ob.st {g : dv_P} {h h1 : dv_H} {a ci N : Nat} {fs : List Value} {ks : List ClassId} (ho : dv_ob g h a ci N fs) (s : dv_st a h h1) (hk : dv_k g ci ∈ ks) (hl : dv_lo g ≤ a) : dv_fr (dv_lo g) ks h h1 := by
  obtain ⟨x, h2, h3, -⟩ := ho
  exact s.fr h2 (by rw [h3]; exact hk) hl
section DVH
variable {g : dv_P} {p : Program} {l : Launch} {e : Env} {R : Room} {s : State} {m : MethodId} {args : Array Value} {below : List Frame} {meth : Method} {c : Code} {h : dv_H} {k n : Nat} {Q : State → Prop}
variable {lk : Option Addr} {mr : Nat} {pc nL : Nat} {ls : List Slot} {st : List Value} {cc : ByteArray} {own : String}
theorem dv_get (cx : CallFix p m c cc nL s args lw_all own) (hK : dv_K g s) {ref C : String} {T : u_T} {N ci index : Nat} (hin : ∀ w ∈ u_ws C T N, w ∈ lw_all) (hc : dv_cl[ci]? = some (C, T, N)) {a : Nat} {fs : List Value} (ho : dv_ob g h a ci N fs) (j : Nat) (hj : j < N)
    (hlink : Cond.fieldLink own index ref (T j).2.1 (T j).2.2.1 ∈ lw_all) (hsame : ∀ x, s.fieldFound? (T j).1 (T j).2.1 (T j).2.2.1 = some x → s.fieldFound? ref (T j).2.1 (T j).2.2.1 = some x) {v : Value} (hv : vp_V fs j = v) (hd : decode cc pc = .ok (.getfield index, 3))
    (kk : dv_V (dv_lo g) p l e R s m args below meth c h k n Q (dv_G lk mr m (pc + 3) ls (v :: st))) : dv_V (dv_lo g) p l e R s m args below meth c h k n Q (dv_G lk mr m pc ls (.ref a :: st)) := by
  obtain ⟨hx, hb, hml, hown, hts⟩ := cx
  obtain ⟨x, q1, q2, q3, q4⟩ := ho
  obtain ⟨hS, hfc, kC, hkC, hkind⟩ := hK.2.2.1.1.1 ci _ hc
  obtain ⟨cf, kf, fi, f, hi, hsl⟩ := hS j hj
  intro H locs h1 h2 h3
  rw [← h1] at q1
  obtain ⟨cell, r1, r2⟩ := dv_cell q1
  subst r2
  refine W.getf hx hb hown (hts _ hlink) (hsame _ hi) (u_facts hfc hkC (u_lays hts hin hj) hi).1 r1 (fun z => by have q5 : cell.vm = .none := q3; rw [q5] at z; cases z) (v := v) ?_ rfl rfl hd (kk H locs h1 h2 h3)
  have q5 : cell.slots[(dv_D g).2 ci j]? = some (vp_V fs j) := q4 j hj
  rw [hsl, q5, hv]
theorem dv_getN (cx : CallFix p m c cc nL s args lw_all own) (hK : dv_K g s) {ref C host : String} {T : u_T} {N ci index : Nat} (hin : ∀ w ∈ u_ws C T N, w ∈ lw_all) (hc : dv_cl[ci]? = some (C, T, N)) {a : Nat} {fs : List Value} (ho : dv_ob g h a ci N fs) (j : Nat) (hj : j < N)
    (hlink : va_Nw (Cond.fieldLinkNest own index ref (T j).2.1 (T j).2.2.1 host) s) (hsame : ∀ x, s.fieldFound? (T j).1 (T j).2.1 (T j).2.2.1 = some x → s.fieldFound? ref (T j).2.1 (T j).2.2.1 = some x) {v : Value} (hv : vp_V fs j = v) (hd : decode cc pc = .ok (.getfield index, 3))
    (kk : dv_V (dv_lo g) p l e R s m args below meth c h k n Q (dv_G lk mr m (pc + 3) ls (v :: st))) : dv_V (dv_lo g) p l e R s m args below meth c h k n Q (dv_G lk mr m pc ls (.ref a :: st)) := by
  obtain ⟨hx, hb, hml, hown, hts⟩ := cx
  obtain ⟨x, q1, q2, q3, q4⟩ := ho
  obtain ⟨hS, hfc, kC, hkC, hkind⟩ := hK.2.2.1.1.1 ci _ hc
  obtain ⟨cf, kf, fi, f, hi, hsl⟩ := hS j hj
  intro H locs h1 h2 h3
  rw [← h1] at q1
  obtain ⟨cell, r1, r2⟩ := dv_cell q1
  subst r2
  refine va_Wgetf hx hb hown (va_Nw.use rfl hlink) (hsame _ hi) (u_facts hfc hkC (u_lays hts hin hj) hi).1 r1 (fun z => by have q5 : cell.vm = .none := q3; rw [q5] at z; cases z) (v := v) ?_ rfl rfl hd (kk H locs h1 h2 h3)
  have q5 : cell.slots[(dv_D g).2 ci j]? = some (vp_V fs j) := q4 j hj
  rw [hsl, q5, hv]
/-- what a store of a field leaves -/
theorem dv_stored {a ci N j i : Nat} {fs : List Value} {x : Cell} {v : Value} (hap : ∀ y z, y < N → z < N → y ≠ z → (dv_D g).2 ci y ≠ (dv_D g).2 ci z) (q1 : h a = some x) (q2 : x.cls = dv_k g ci) (q3 : x.vm = .none) (q4 : ∀ j, j < N → x.slots[(dv_D g).2 ci j]? = some (vp_V fs j)) (hi : i = (dv_D g).2 ci j) (hj : j < N) (hl : j < fs.length) :
    dv_ob g (dv_up h a (x.setSlot i v)) a ci N (fs.set j v) ∧ dv_st a h (dv_up h a (x.setSlot i v)) := by
  subst hi
  refine ⟨⟨_, dv_up_self _ _ _, q2, q3, fun y hy => ?_⟩, x, x.setSlot _ v, q1, rfl, rfl, rfl⟩
  have h1 := t_set (cell := x) (iS := (dv_D g).2 ci) (V := vp_V fs) q4 hap hj v y hy
  rw [h1, vp_updV_set hl v y]
theorem dv_put (cx : CallFix p m c cc nL s args lw_all own) (hK : dv_K g s) {ref C : String} {T : u_T} {N ci index : Nat} (hin : ∀ w ∈ u_ws C T N, w ∈ lw_all) (hc : dv_cl[ci]? = some (C, T, N)) (ty0 : Nat → FieldType) (hty : ∀ k, k < N → parseFieldDescriptor (T k).2.2.1 = some (ty0 k)) (hnm : ∀ a, a < N → ∀ b, b < N → a ≠ b → (T a).2.1 ≠ (T b).2.1) {a : Nat} {fs : List Value} (ho : dv_ob g h a ci N fs) (hlo : dv_lo g ≤ a) (j : Nat) (hj : j < N)
    (hlink : Cond.fieldLink own index ref (T j).2.1 (T j).2.2.1 ∈ lw_all) (hsame : ∀ x, s.fieldFound? (T j).1 (T j).2.1 (T j).2.2.1 = some x → s.fieldFound? ref (T j).2.1 (T j).2.2.1 = some x) (hfin : (T j).2.2.2 = false) {v : Value} (hn : narrow (ty0 j) v = v) (hfit : fits (ty0 j) v = true) (hl : j < fs.length) (hd : decode cc pc = .ok (.putfield index, 3))
    (kk : ∀ h1, dv_ob g h1 a ci N (fs.set j v) → dv_st a h h1 → dv_V (dv_lo g) p l e R s m args below meth c h1 k n Q (dv_G lk mr m (pc + 3) ls st)) : dv_V (dv_lo g) p l e R s m args below meth c h k n Q (dv_G lk mr m pc ls (v :: .ref a :: st)) := by
  obtain ⟨hx, hb, hml, hown, hts⟩ := cx
  have hap := va_apart (own := own) hts hin ty0 hty hnm hK.2.2.1.1 hc
  obtain ⟨x, q1, q2, q3, q4⟩ := ho
  obtain ⟨hS, hfc, kC, hkC, hkind⟩ := hK.2.2.1.1.1 ci _ hc
  obtain ⟨cf, kf, fi, f, hi, hsl⟩ := hS j hj
  have hlay := hts _ (hin _ (u_in_lay hj))
  unfold u_lay at hlay
  rw [if_neg (by rw [hfin]; decide)] at hlay
  have hst := (u_facts hfc hkC (u_lays hts hin hj) hi).1
  have h6 := u_store hfc hkC hkind hlay hi (hty j hj) hn hfit
  obtain ⟨k1, k2⟩ := dv_stored (g := g) (h := h) (v := v) hap q1 q2 q3 q4 hsl hj hl
  intro H locs h1 h2 h3
  rw [← h1] at q1
  obtain ⟨cell, r1, r2⟩ := dv_cell q1
  have e2 : cell.cls = dv_k g ci := by rw [← q2, ← r2]; rfl
  have e3 : cell.vm = .none := by rw [← q3, ← r2]; rfl
  have e4 : ∀ j, j < N → cell.slots[(dv_D g).2 ci j]? = some (vp_V fs j) := fun j hj => by rw [← q4 j hj, ← r2]; rfl
  refine W.putK hx hb (f := f) ⟨hown, hts _ hlink, ⟨_, _, _, hsame _ hi⟩, hst⟩ (by rw [e2]; exact h6) r1 e3 (by rw [hsl]; exact k2_hasslot (e4 j hj)) rfl rfl hd fun H' w1 w2 w3 => ?_
  have e5 : dv_ct H' = dv_up h a (x.setSlot f.slot v) := by rw [dv_ct_set w1 w3, h1, ← r2]; rfl
  refine kk _ k1 k2 H' _ e5 (h2.set r1 w1 rfl w2 w3) (fun q hq => ?_)
  rcases List.mem_append.mp hq with z | z
  · exact h3 q z
  · rw [List.mem_singleton.mp z]; exact hlo
theorem dv_putF (cx : CallFix p m c cc nL s args lw_all own) (hK : dv_K g s) {ref C : String} {T : u_T} {N ci index : Nat} (hin : ∀ w ∈ u_ws C T N, w ∈ lw_all) (hc : dv_cl[ci]? = some (C, T, N)) (ty0 : Nat → FieldType) (hty : ∀ k, k < N → parseFieldDescriptor (T k).2.2.1 = some (ty0 k)) (hnm : ∀ a, a < N → ∀ b, b < N → a ≠ b → (T a).2.1 ≠ (T b).2.1) {a : Nat} {fs : List Value} (ho : dv_ob g h a ci N fs) (hlo : dv_lo g ≤ a) (j : Nat) (hj : j < N)
    (hlink : Cond.fieldLink own index ref (T j).2.1 (T j).2.2.1 ∈ lw_all) (hsame : ∀ x, s.fieldFound? (T j).1 (T j).2.1 (T j).2.2.1 = some x → s.fieldFound? ref (T j).2.1 (T j).2.2.1 = some x) (hfin : (T j).2.2.2 = true) (hin2 : meth.name = "<init>") (hdecl : (T j).1 = own) {v : Value} (hn : narrow (ty0 j) v = v) (hfit : fits (ty0 j) v = true) (hl : j < fs.length) (hd : decode cc pc = .ok (.putfield index, 3))
    (kk : ∀ h1, dv_ob g h1 a ci N (fs.set j v) → dv_st a h h1 → dv_V (dv_lo g) p l e R s m args below meth c h1 k n Q (dv_G lk mr m (pc + 3) ls st)) : dv_V (dv_lo g) p l e R s m args below meth c h k n Q (dv_G lk mr m pc ls (v :: .ref a :: st)) := by
  obtain ⟨hx, hb, hml, hown, hts⟩ := cx
  have hap := va_apart (own := own) hts hin ty0 hty hnm hK.2.2.1.1 hc
  obtain ⟨x, q1, q2, q3, q4⟩ := ho
  obtain ⟨hS, hfc, kC, hkC, hkind⟩ := hK.2.2.1.1.1 ci _ hc
  obtain ⟨cf, kf, fi, f, hi, hsl⟩ := hS j hj
  have hst := (u_facts hfc hkC (u_lays hts hin hj) hi).1
  have h6 := u_fits hfc hkC hkind (u_lays hts hin hj) hi (hty j hj) hn hfit
  have hlay := hts _ (hin _ (u_in_lay hj))
  unfold u_lay at hlay
  rw [if_pos hfin] at hlay
  have hcf : m.cls = cf := by
    obtain ⟨_, _, c', _, _, _, -, -, hf', -, -, -, hown2, -⟩ := Cond.laysFinal_spec hlay
    have e1 : c' = cf := by have := hi.symm.trans hf'; simp at this; exact this.1.symm
    rw [hdecl] at hown2
    rw [← e1]; exact Option.some.inj (hown.symm.trans hown2)
  obtain ⟨k1, k2⟩ := dv_stored (g := g) (h := h) (v := v) hap q1 q2 q3 q4 hsl hj hl
  intro H locs h1 h2 h3
  rw [← h1] at q1
  obtain ⟨cell, r1, r2⟩ := dv_cell q1
  have e2 : cell.cls = dv_k g ci := by rw [← q2, ← r2]; rfl
  have e3 : cell.vm = .none := by rw [← q3, ← r2]; rfl
  have e4 : ∀ j, j < N → cell.slots[(dv_D g).2 ci j]? = some (vp_V fs j) := fun j hj => by rw [← q4 j hj, ← r2]; rfl
  refine W.putFinK hx hb hown (hts _ hlink) (hsame _ hi) hst hcf hin2 (by rw [e2]; exact h6) r1 e3 (by rw [hsl]; exact k2_hasslot (e4 j hj)) rfl rfl hd fun H' w1 w2 w3 => ?_
  have e5 : dv_ct H' = dv_up h a (x.setSlot f.slot v) := by rw [dv_ct_set w1 w3, h1, ← r2]; rfl
  refine kk _ k1 k2 H' _ e5 (h2.set r1 w1 rfl w2 w3) (fun q hq => ?_)
  rcases List.mem_append.mp hq with z | z
  · exact h3 q z
  · rw [List.mem_singleton.mp z]; exact hlo
end DVH
end
section
/-! ===== rows over views: arrays, new objects, casts, constants, statics ===== -/
set_option maxRecDepth 100000
/-- a new cell -/
def dv_nw (a : Nat) (h h1 : dv_H) : Prop := h a = none ∧ ∃ x : Cell, h1 = dv_up h a x
theorem dv_nw.ne {a q : Nat} {h h1 : dv_H} (s : dv_nw a h h1) (hq : q ≠ a) : h1 q = h q := by
  obtain ⟨-, x, e⟩ := s
  rw [e, dv_up_ne hq]
theorem dv_nw.kp {a q : Nat} {h h1 : dv_H} {x : Cell} (s : dv_nw a h h1) (hx : h q = some x) : h1 q = some x := by
  rw [s.ne (fun z => by rw [z, s.1] at hx; cases hx)]
  exact hx
theorem dv_nw.fr {a lo : Nat} {ks : List ClassId} {h h1 : dv_H} (s : dv_nw a h h1) : dv_fr lo ks h h1 := by
  obtain ⟨e0, x, e⟩ := s
  rw [e]
  exact dv_fr.new e0
theorem dv_er_arr (cA : ClassId) (n : Nat) (f : Nat → Value) : dv_er (arrV cA n f) = arrV cA n f := rfl
theorem dv_vaS {lo : Nat} {ks : List ClassId} {s : State} {H : Heap} {h : dv_H} {locs : List Loc} (h1 : dv_ct H = h) (h2 : dv_mo s.heap H) (h3 : ∀ q ∈ locs, lo ≤ q.base) (hF : dv_fr lo ks (dv_ct s.heap) h) (hz : lo ≤ s.heap.size) : va_S (fun q => lo ≤ q) s.heap H locs := by
  subst h1
  exact ⟨h2.1, fun q _ hq => dv_low hF h2 hz q (Nat.not_le.mp hq), h3⟩
section DVA
variable {g : dv_P} {p : Program} {l : Launch} {e : Env} {R : Room} {s : State} {m : MethodId} {args : Array Value} {below : List Frame} {meth : Method} {c : Code} {h : dv_H} {k n : Nat} {Q : State → Prop}
variable {lk : Option Addr} {mr : Nat} {pc nL : Nat} {ls : List Slot} {st : List Value} {cc : ByteArray} {own : String}
theorem dv_alen (cx : CallFix p m c cc nL s args lw_all own) (hK : dv_K g s) (t0 : Nat) {cA : ClassId} {ty : FieldType} (ht : (dv_ty g)[t0]? = some (cA, ty)) {a n0 : Nat} {f : Nat → Value} {v : Int32} (ha : h a = some (arrV cA n0 f)) (hv : Int32.ofNat n0 = v) (hd : decode cc pc = .ok (.arraylength, 1))
    (kk : dv_V (dv_lo g) p l e R s m args below meth c h k n Q (dv_G lk mr m (pc + 1) ls (.int v :: st))) : dv_V (dv_lo g) p l e R s m args below meth c h k n Q (dv_G lk mr m pc ls (.ref a :: st)) := by
  obtain ⟨hx, hb, hml, hown, hts⟩ := cx
  intro H locs h1 h2 h3
  rw [← h1] at ha
  obtain ⟨cell, r1, r2⟩ := dv_cell ha
  have hA : s.isArrayOf (dv_er cell) ty := by rw [r2]; exact (hK.2.2.1.1.2 t0 _ ht).1 n0 f
  have hz : cell.slots.size = n0 := by
    have e1 : (dv_er cell).slots.size = n0 := by rw [r2]; exact arrV_size _ _ _
    exact e1
  exact W.alen hx hb r1 (show s.isArrayOf cell ty from hA) (by rw [hz]; exact hv) rfl rfl hd (kk H locs h1 h2 h3)
theorem dv_aald (cx : CallFix p m c cc nL s args lw_all own) (hK : dv_K g s) (t0 : Nat) {cA : ClassId} {C : String} (ht : (dv_ty g)[t0]? = some (cA, .object C)) {a n0 i : Nat} {f : Nat → Value} {x : Int32} {v : Value} (ha : h a = some (arrV cA n0 f)) (hx' : x = nI i) (hi : i < n0) (hn : n0 < 2 ^ 31) (hv : f i = v) (hd : decode cc pc = .ok (.aaload, 1))
    (kk : dv_V (dv_lo g) p l e R s m args below meth c h k n Q (dv_G lk mr m (pc + 1) ls (v :: st))) : dv_V (dv_lo g) p l e R s m args below meth c h k n Q (dv_G lk mr m pc ls (.int x :: .ref a :: st)) := by
  obtain ⟨hx, hb, hml, hown, hts⟩ := cx
  subst hx'
  intro H locs h1 h2 h3
  rw [← h1] at ha
  obtain ⟨cell, r1, r2⟩ := dv_cell ha
  have hA : s.isArrayOf (dv_er cell) (.object C) := by rw [r2]; exact (hK.2.2.1.1.2 t0 _ ht).1 n0 f
  have hcl : (nI i).toNatClampNeg = i := nI_clamp (by omega)
  have hz : (dv_er cell).slots.size = n0 := by rw [r2]; exact arrV_size _ _ _
  have hr : (dv_er cell).slots[i]? = some (f i) := by rw [r2]; exact arrV_read _ _ hi
  have hk : (dv_er cell).vm = .none := by rw [r2]; rfl
  refine W.aald (v := v) (ty := .object C) hx hb r1 (show s.isArrayOf cell _ from hA) rfl (fun z => by rw [show cell.vm = .none from hk] at z; cases z) ?_ ?_ rfl rfl hd (kk H locs h1 h2 h3)
  · rw [hcl, show cell.slots.size = n0 from hz]
    intro z
    rcases z with z | z
    · exact nI_pos (by omega) z
    · omega
  · rw [hcl, ← hv]
    exact hr
theorem dv_iald (cx : CallFix p m c cc nL s args lw_all own) (hK : dv_K g s) {a n0 i : Nat} {f : Nat → Int32} {x v : Int32} (ha : h a = some (arrV (dv_k g 12) n0 (fun j => .int (f j)))) (hx' : x = nI i) (hi : i < n0) (hn : n0 < 2 ^ 31) (hv : f i = v) (hd : decode cc pc = .ok (.iaload, 1))
    (kk : dv_V (dv_lo g) p l e R s m args below meth c h k n Q (dv_G lk mr m (pc + 1) ls (.int v :: st))) : dv_V (dv_lo g) p l e R s m args below meth c h k n Q (dv_G lk mr m pc ls (.int x :: .ref a :: st)) := by
  obtain ⟨hx, hb, hml, hown, hts⟩ := cx
  subst hx'
  intro H locs h1 h2 h3
  rw [← h1] at ha
  obtain ⟨cell, r1, r2⟩ := dv_cell ha
  have hA : s.isArrayOf (dv_er cell) .int := by rw [r2]; exact (hK.2.2.1.1.2 2 (dv_k g 12, .int) rfl).1 n0 _
  have hcl : (nI i).toNatClampNeg = i := nI_clamp (by omega)
  have hz : (dv_er cell).slots.size = n0 := by rw [r2]; exact arrV_size _ _ _
  have hr : (dv_er cell).slots[i]? = some (.int (f i)) := by rw [r2]; exact arrV_read _ _ hi
  have hk : (dv_er cell).vm = .none := by rw [r2]; rfl
  refine W.iald (v := .int v) hx hb r1 (show s.isArrayOf cell _ from hA) (fun z => by rw [show cell.vm = .none from hk] at z; cases z) ?_ ?_ rfl rfl hd (kk H locs h1 h2 h3)
  · rw [hcl, show cell.slots.size = n0 from hz]
    intro z
    rcases z with z | z
    · exact nI_pos (by omega) z
    · omega
  · rw [hcl, ← hv]
    exact hr
theorem dv_iast (cx : CallFix p m c cc nL s args lw_all own) (hK : dv_K g s) {a n0 i : Nat} {f : Nat → Int32} {x v : Int32} (ha : h a = some (arrV (dv_k g 12) n0 (fun j => .int (f j)))) (hlo : dv_lo g ≤ a) (hx' : x = nI i) (hi : i < n0) (hn : n0 < 2 ^ 31) (hd : decode cc pc = .ok (.iastore, 1))
    (kk : dv_V (dv_lo g) p l e R s m args below meth c (dv_up h a (arrV (dv_k g 12) n0 (fun j => .int (upd f i v j)))) k n Q (dv_G lk mr m (pc + 1) ls st)) : dv_V (dv_lo g) p l e R s m args below meth c h k n Q (dv_G lk mr m pc ls (.int v :: .int x :: .ref a :: st)) := by
  obtain ⟨hx, hb, hml, hown, hts⟩ := cx
  subst hx'
  intro H locs h1 h2 h3
  rw [← h1] at ha
  obtain ⟨cell, r1, r2⟩ := dv_cell ha
  have hA : s.isArrayOf (dv_er cell) .int := by rw [r2]; exact (hK.2.2.1.1.2 2 (dv_k g 12, .int) rfl).1 n0 _
  have hcl : (nI i).toNatClampNeg = i := nI_clamp (by omega)
  have hz : (dv_er cell).slots.size = n0 := by rw [r2]; exact arrV_size _ _ _
  have hk : (dv_er cell).vm = .none := by rw [r2]; rfl
  refine W.iast hx hb r1 (show s.isArrayOf cell _ from hA) (fun z => by rw [show cell.vm = .none from hk] at z; cases z) ?_ rfl rfl hd fun H' w1 w2 w3 => ?_
  · rw [hcl, show cell.slots.size = n0 from hz]
    intro z
    rcases z with z | z
    · exact nI_pos (by omega) z
    · omega
  · rw [hcl] at w1 ⊢
    have e5 : dv_ct H' = dv_up h a (arrV (dv_k g 12) n0 (fun j => .int (upd f i v j))) := by
      rw [dv_ct_set w1 w3, h1]
      congr 1
      show (dv_er cell).setSlot i (.int v) = _
      rw [r2, arrV_store]
      congr 1
      funext j
      by_cases hj : j = i <;> simp [updV, upd, hj]
    refine kk H' _ e5 (h2.set r1 w1 rfl w2 w3) (fun q hq => ?_)
    rcases List.mem_append.mp hq with z | z
    · exact h3 q z
    · rw [List.mem_singleton.mp z]; exact hlo
theorem dv_aast (cx : CallFix p m c cc nL s args lw_all own) (hK : dv_K g s) (t0 : Nat) {cA : ClassId} {E C : String} (ht : (dv_ty g)[t0]? = some (cA, .object E)) {a n0 i w : Nat} {f : Nat → Value} {x : Int32} {y : Cell} (ha : h a = some (arrV cA n0 f)) (hlo : dv_lo g ≤ a) (hx' : x = nI i) (hi : i < n0) (hn : n0 < 2 ^ 31)
    (hw : h w = some y) (hy : y.vm.isStatics = false) (hyc : s.vm.findClass C = some y.cls) (hasg : ∀ comp c0 : ClassId, s.vm.findClass E = some comp → s.vm.findClass C = some c0 → s.vm.assignable c0 comp = true) (hd : decode cc pc = .ok (.aastore, 1))
    (kk : dv_V (dv_lo g) p l e R s m args below meth c (dv_up h a (arrV cA n0 (updV f i (.ref w)))) k n Q (dv_G lk mr m (pc + 1) ls st)) : dv_V (dv_lo g) p l e R s m args below meth c h k n Q (dv_G lk mr m pc ls (.ref w :: .int x :: .ref a :: st)) := by
  obtain ⟨hx, hb, hml, hown, hts⟩ := cx
  subst hx'
  obtain ⟨kA, comp, k1, k2, k3, -⟩ := (hK.2.2.1.1.2 t0 _ ht).2
  obtain ⟨kE, hkE, -⟩ := Vm.findClass_spec k3
  obtain ⟨kC, hkC, -⟩ := Vm.findClass_spec hyc
  intro H locs h1 h2 h3
  rw [← h1] at ha hw
  obtain ⟨cell, r1, r2⟩ := dv_cell ha
  obtain ⟨cw, u1, u2⟩ := dv_cell hw
  have hcl : (nI i).toNatClampNeg = i := nI_clamp (by omega)
  have hz : (dv_er cell).slots.size = n0 := by rw [r2]; exact arrV_size _ _ _
  have hk : (dv_er cell).vm = .none := by rw [r2]; rfl
  have hcc : (dv_er cell).cls = cA := by rw [r2]; rfl
  have hyv : cw.vm.isStatics = false := by rw [← hy, ← u2]; rfl
  have hyk : cw.cls = y.cls := by rw [← u2]; rfl
  refine W.aast hx hb r1 (fun q z => by rw [show cell.vm = .none from hk] at z; cases z) (fun z => by rw [show cell.vm = .none from hk] at z; cases z) (by rw [show cell.cls = cA from hcc]; exact k1) k2 rfl hkE ⟨nI_pos (by omega), by rw [hcl, show cell.slots.size = n0 from hz]; exact hi⟩ u1 (fun q z => by rw [z] at hyv; cases hyv) (by rw [hyk]; exact hkC) (by rw [hyk]; exact hasg _ _ k3 hyc) rfl rfl hd fun H' w1 w2 w3 => ?_
  rw [hcl] at w1 ⊢
  have e5 : dv_ct H' = dv_up h a (arrV cA n0 (updV f i (.ref w))) := by
    rw [dv_ct_set w1 w3, h1]
    congr 1
    show (dv_er cell).setSlot i (.ref w) = _
    rw [r2, arrV_store]
  refine kk H' _ e5 (h2.set r1 w1 rfl w2 w3) (fun q hq => ?_)
  rcases List.mem_append.mp hq with z | z
  · exact h3 q z
  · rw [List.mem_singleton.mp z]; exact hlo
theorem dv_aastN (cx : CallFix p m c cc nL s args lw_all own) (hK : dv_K g s) (t0 : Nat) {cA : ClassId} {E : String} (ht : (dv_ty g)[t0]? = some (cA, .object E)) {a n0 i : Nat} {f : Nat → Value} {x : Int32} (ha : h a = some (arrV cA n0 f)) (hlo : dv_lo g ≤ a) (hx' : x = nI i) (hi : i < n0) (hn : n0 < 2 ^ 31) (hd : decode cc pc = .ok (.aastore, 1))
    (kk : dv_V (dv_lo g) p l e R s m args below meth c (dv_up h a (arrV cA n0 (updV f i .null))) k n Q (dv_G lk mr m (pc + 1) ls st)) : dv_V (dv_lo g) p l e R s m args below meth c h k n Q (dv_G lk mr m pc ls (.null :: .int x :: .ref a :: st)) := by
  obtain ⟨hx, hb, hml, hown, hts⟩ := cx
  subst hx'
  intro H locs h1 h2 h3
  rw [← h1] at ha
  obtain ⟨cell, r1, r2⟩ := dv_cell ha
  have hA : s.isArrayOf (dv_er cell) (.object E) := by rw [r2]; exact (hK.2.2.1.1.2 t0 _ ht).1 n0 f
  have hcl : (nI i).toNatClampNeg = i := nI_clamp (by omega)
  have hz : (dv_er cell).slots.size = n0 := by rw [r2]; exact arrV_size _ _ _
  have hk : (dv_er cell).vm = .none := by rw [r2]; rfl
  refine va_WaastN (C := E) hx hb r1 (show s.isArrayOf cell _ from hA) (fun z => by rw [show cell.vm = .none from hk] at z; cases z) ?_ rfl rfl hd fun H' w1 w2 w3 => ?_
  · rw [hcl, show cell.slots.size = n0 from hz]
    intro z
    rcases z with z | z
    · exact nI_pos (by omega) z
    · omega
  · rw [hcl] at w1 ⊢
    have e5 : dv_ct H' = dv_up h a (arrV cA n0 (updV f i .null)) := by
      rw [dv_ct_set w1 w3, h1]
      congr 1
      show (dv_er cell).setSlot i .null = _
      rw [r2, arrV_store]
    refine kk H' _ e5 (h2.set r1 w1 rfl w2 w3) (fun q hq => ?_)
    rcases List.mem_append.mp hq with z | z
    · exact h3 q z
    · rw [List.mem_singleton.mp z]; exact hlo
theorem dv_new (cx : CallFix p m c cc nL s args lw_all own) (hK : dv_K g s) {C : String} {T : u_T} {N ci index : Nat} (hin : ∀ w ∈ u_ws C T N, w ∈ lw_all) (hc : dv_cl[ci]? = some (C, T, N)) (ty : Nat → FieldType) (hty : ∀ k, k < N → parseFieldDescriptor (T k).2.2.1 = some (ty k)) (hcl : Cond.classLink own index C ∈ lw_all) (hinst : Cond.instantiable C N ∈ lw_all) (hini : Cond.initialized C ∈ lw_all) {fs : List Value} (hfs : ∀ j, j < N → defaultValue (ty j) = vp_V fs j) (hk : k + 1 ≤ R.cells) (hn : n + N ≤ R.slots) (hd : decode cc pc = .ok (.new index, 3))
    (kk : ∀ (a : Nat) (h1 : dv_H), dv_nw a h h1 → dv_lo g ≤ a → s.heap.size ≤ a → dv_ob g h1 a ci N fs → dv_V (dv_lo g) p l e R s m args below meth c h1 (k + 1) (n + N) Q (dv_G lk mr m (pc + 3) ls (.ref a :: st))) : dv_V (dv_lo g) p l e R s m args below meth c h k n Q (dv_G lk mr m pc ls st) := by
  obtain ⟨hx, hb, hml, hown, hts⟩ := cx
  have hKn := hK.2.2.1.1.1 ci _ hc
  intro H locs h1 h2 h3
  refine W.newcK hx hb hown (hts _ hcl) (hts _ hinst) (hts _ hini) rfl hd hk hn hKn.2.1 rfl fun H1 kC hkC e1 z1 o1 => ?_
  have e5 := dv_ct_push e1 z1 o1
  rw [h1] at e5
  obtain ⟨cell, b1, b2, b3, b4⟩ := (u_born ty hts hin hKn hkC e1 hty).to hfs
  cases e1.symm.trans b1
  have hnone : h H.size = none := by rw [← h1]; exact dv_none H
  exact kk H.size _ ⟨hnone, _, rfl⟩ (Nat.le_trans hK.2.1 h2.1) h2.1 ⟨_, dv_up_self _ _ _, b2, b3, b4⟩ H1 locs e5 (h2.push e1 rfl z1 o1) h3
theorem dv_anew (cx : CallFix p m c cc nL s args lw_all own) (hK : dv_K g s) (t0 : Nat) {cA : ClassId} {C : String} {index : Nat} (ht : (dv_ty g)[t0]? = some (cA, .object C)) (hcl : Cond.classLink own index C ∈ lw_all) (hover : va_AO C s) {x : Int32} {n0 : Nat} (hx' : x = nI n0) (hn0 : n0 ≤ 134217728) (hk : k + 1 ≤ R.cells) (hn : n + n0 ≤ R.slots) (hd : decode cc pc = .ok (.anewarray index, 3))
    (kk : ∀ (a : Nat) (h1 : dv_H), dv_nw a h h1 → dv_lo g ≤ a → s.heap.size ≤ a → h1 a = some (arrV cA n0 (fun _ => .null)) → dv_V (dv_lo g) p l e R s m args below meth c h1 (k + 1) (n + n0) Q (dv_G lk mr m (pc + 3) ls (.ref a :: st))) : dv_V (dv_lo g) p l e R s m args below meth c h k n Q (dv_G lk mr m pc ls (.int x :: st)) := by
  obtain ⟨hx, hb, hml, hown, hts⟩ := cx
  subst hx'
  obtain ⟨kA0, comp0, k1, k2, k3, k4⟩ := (hK.2.2.1.1.2 t0 _ ht).2
  have hcn : (nI n0).toNatClampNeg = n0 := nI_clamp (by omega)
  intro H locs h1 h2 h3
  refine W.anew hx hb hown (hts _ hcl) (va_AO.use hover) rfl hd rfl (nI_pos (by omega)) (by rw [hcn]; omega) hk (by rw [hcn]; exact hn) fun cA' kA comp f1 f2 f3 f4 => ?_
  cases k4.symm.trans f1
  rw [hcn]
  generalize hH1 : H.push ({ cls := cA, slots := Array.replicate n0 .null, vm := .none } : Cell) = H1
  have z1 : H1.size = H.size + 1 := by rw [← hH1, Array.size_push]
  have e1 : H1[H.size]? = some (arrV cA n0 (fun _ => .null)) := by rw [← hH1, Array.getElem?_push_size, ← arrV_new]
  have o1 : ∀ q : Nat, q < H.size → H1[q]? = H[q]? := fun q hq => by rw [← hH1, Array.getElem?_push, if_neg (Nat.ne_of_lt hq)]
  have e5 := dv_ct_push e1 z1 o1
  rw [h1] at e5
  have hnone : h H.size = none := by rw [← h1]; exact dv_none H
  exact kk H.size _ ⟨hnone, _, rfl⟩ (Nat.le_trans hK.2.1 h2.1) h2.1 (dv_up_self _ _ _) H1 locs e5 (h2.push e1 rfl z1 o1) h3
theorem dv_newa (cx : CallFix p m c cc nL s args lw_all own) (hK : dv_K g s) (hcl : Cond.arrayClass FieldType.int ∈ lw_all) {x : Int32} {n0 : Nat} (hx' : x = nI n0) (hn0 : n0 ≤ 134217728) (hk : k + 1 ≤ R.cells) (hn : n + n0 ≤ R.slots) (hd : decode cc pc = .ok (.newarray .int, 2))
    (kk : ∀ (a : Nat) (h1 : dv_H), dv_nw a h h1 → dv_lo g ≤ a → s.heap.size ≤ a → h1 a = some (arrV (dv_k g 12) n0 (fun _ => .int 0)) → dv_V (dv_lo g) p l e R s m args below meth c h1 (k + 1) (n + n0) Q (dv_G lk mr m (pc + 2) ls (.ref a :: st))) : dv_V (dv_lo g) p l e R s m args below meth c h k n Q (dv_G lk mr m pc ls (.int x :: st)) := by
  obtain ⟨hx, hb, hml, hown, hts⟩ := cx
  subst hx'
  have k4 := (hK.2.2.1.1.2 2 (dv_k g 12, .int) rfl).2
  have hcn : (nI n0).toNatClampNeg = n0 := nI_clamp (by omega)
  intro H locs h1 h2 h3
  refine va_newaK (atype := .int) hx hb (hts _ hcl) rfl hd rfl (nI_pos (by omega)) hcn (by show n0 * 4 ≤ _; omega) hk hn rfl fun H1 cA' e1 z1 o1 _ f1 => ?_
  have k5 : s.vm.findClass ("[" ++ (FieldType.int).toString) = some (dv_k g 12) := k4
  have e6 : cA' = dv_k g 12 := Option.some.inj (f1.symm.trans k5)
  subst e6
  have e5 := dv_ct_push e1 z1 o1
  rw [h1] at e5
  have hnone : h H.size = none := by rw [← h1]; exact dv_none H
  exact kk H.size _ ⟨hnone, _, rfl⟩ (Nat.le_trans hK.2.1 h2.1) h2.1 (dv_up_self _ _ _) H1 locs e5 (h2.push e1 rfl z1 o1) h3
theorem dv_ldc (cx : CallFix p m c cc nL s args lw_all own) {index : Nat} {v : Int32} (hw : Cond.constant own index v ∈ lw_all) (hd : decode cc pc = .ok (.ldc index, 2)) {lo : Nat}
    (kk : dv_V lo p l e R s m args below meth c h k n Q (dv_G lk mr m (pc + 2) ls (.int v :: st))) : dv_V lo p l e R s m args below meth c h k n Q (dv_G lk mr m pc ls st) :=
  fun H locs h1 h2 h3 => W.ldc cx.1 cx.2.1 cx.2.2.2.1 (cx.2.2.2.2 _ hw) rfl hd (kk H locs h1 h2 h3)
theorem dv_castN (cx : CallFix p m c cc nL s args lw_all own) {index : Nat} (hd : decode cc pc = .ok (.checkcast index, 3)) {lo : Nat}
    (kk : dv_V lo p l e R s m args below meth c h k n Q (dv_G lk mr m (pc + 3) ls (.null :: st))) : dv_V lo p l e R s m args below meth c h k n Q (dv_G lk mr m pc ls (.null :: st)) := by
  obtain ⟨hx, hb, -⟩ := cx
  intro H locs h1 h2 h3 T hT X
  obtain ⟨t, a1, b1⟩ := kk H locs h1 h2 h3 T hT X
  exact ⟨t, X.checkcastNull hx (g := dv_G lk mr m pc ls (.null :: st)) rfl rfl (by rw [hb]; exact hd) t a1, b1⟩
/-- a cast of an Integer to Integer -/
theorem dv_castI (cx : CallFix p m c cc nL s args lw_all own) (hK : dv_K g s) {index a : Nat} {y : Cell} (hw : Cond.classLink own index RJ9 ∈ lw_all) (ha : h a = some y) (hv : y.vm.isStatics = false) (hc : y.cls = dv_k g 5) (hd : decode cc pc = .ok (.checkcast index, 3))
    (kk : dv_V (dv_lo g) p l e R s m args below meth c h k n Q (dv_G lk mr m (pc + 3) ls (.ref a :: st))) : dv_V (dv_lo g) p l e R s m args below meth c h k n Q (dv_G lk mr m pc ls (.ref a :: st)) := by
  obtain ⟨hx, hb, hml, hown, hts⟩ := cx
  have hat : ClassAt s RJ9 (dv_k g 5) := (hK.2.2.1.1.1 5 _ rfl).2
  intro H locs h1 h2 h3 T hT X
  rw [← h1] at ha
  obtain ⟨cell, r1, r2⟩ := dv_cell ha
  have e1 : cell.vm.isStatics = false := by rw [← hv, ← r2]; rfl
  have e2 : cell.cls = dv_k g 5 := by rw [← hc, ← r2]; rfl
  obtain ⟨vm', X', stp⟩ := X.checkcastYes hx hown (hts _ hw) (by rw [hT]; exact r1) e1 hat.1 (by rw [e2]; exact va_assign hat) (g := dv_G lk mr m pc ls (.ref a :: st)) rfl rfl (by rw [hb]; exact hd)
  obtain ⟨t, a1, b1⟩ := kk H locs h1 h2 h3 (T.setVm vm') hT X'
  exact ⟨t, stp t a1, b1⟩
theorem dv_instI (cx : CallFix p m c cc nL s args lw_all own) (hK : dv_K g s) {index a : Nat} {y : Cell} (hw : Cond.classLink own index RJ9 ∈ lw_all) (ha : h a = some y) (hv : y.vm.isStatics = false) (hc : y.cls = dv_k g 5) (hd : decode cc pc = .ok (.instanceof index, 3))
    (kk : dv_V (dv_lo g) p l e R s m args below meth c h k n Q (dv_G lk mr m (pc + 3) ls (.int 1 :: st))) : dv_V (dv_lo g) p l e R s m args below meth c h k n Q (dv_G lk mr m pc ls (.ref a :: st)) := by
  obtain ⟨hx, hb, hml, hown, hts⟩ := cx
  have hat : ClassAt s RJ9 (dv_k g 5) := (hK.2.2.1.1.1 5 _ rfl).2
  intro H locs h1 h2 h3 T hT X
  rw [← h1] at ha
  obtain ⟨cell, r1, r2⟩ := dv_cell ha
  have e1 : cell.vm.isStatics = false := by rw [← hv, ← r2]; rfl
  have e2 : cell.cls = dv_k g 5 := by rw [← hc, ← r2]; rfl
  obtain ⟨vm', X', stp⟩ := X.instanceofYes hx hown (hts _ hw) (by rw [hT]; exact r1) e1 hat.1 (by rw [e2]; exact va_assign hat) (g := dv_G lk mr m pc ls (.ref a :: st)) rfl rfl (by rw [hb]; exact hd)
  obtain ⟨t, a1, b1⟩ := kk H locs h1 h2 h3 (T.setVm vm') hT X'
  exact ⟨t, stp t a1, b1⟩
/-- a constructor's call of Object's -/
theorem dv_objInit (cx : CallFix p m c cc nL s args lw_all own) {index a : Nat} {lo : Nat} (hlink : Cond.methodLink own index Lib.objectInit ∈ lw_all) (hinst : Cond.instanceMethod Lib.objectInit ∈ lw_all) (hcode : Cond.code Lib.objectInit ⟨#[0xb1]⟩ 1 none ∈ lw_all) (hsz : ls.length = nL) (hfr : 1 ≤ R.frames) (hlc : 2 * mr + (st.map fun v => v.category).sum + 12 ≤ R.locals) (hd : decode cc pc = .ok (.invokespecial index, 3))
    (kk : dv_V lo p l e R s m args below meth c h k n Q (dv_G lk mr m (pc + 3) ls st)) : dv_V lo p l e R s m args below meth c h k n Q (dv_G lk mr m pc ls (.ref a :: st)) := by
  obtain ⟨hx, hb, hml, hown, hts⟩ := cx
  intro H locs h1 h2 h3
  exact W.objInit hx hb hown (hts _ hlink) (hts _ hinst) (hts _ hcode) rfl (by show ls.toArray.size = _; rw [hml, ← hsz]; simp) rfl hd hfr hlc (kk H locs h1 h2 h3)
end DVA
end
section
/-! ===== contracts over views: entry and return of plain and of synchronized methods ===== -/
set_option maxRecDepth 100000
def dv_Pc (g : dv_P) (avs : List Value) (M : List Nat) (P : dv_H → Prop) : Array Value → State → Prop := fun v U => v = avs.toArray ∧ dv_K g U ∧ (∀ a ∈ M, dv_en (dv_cu g) a U.heap) ∧ P (dv_ct U.heap)
def dv_Qc (g : dv_P) (ks : List ClassId) (S : Option Value → dv_H → dv_H → Prop) : Array Value → State → Outcome → State → Prop := fun _ st o t => ∃ v, o = .returned v ∧ S v (dv_ct st.heap) (dv_ct t.heap) ∧ dv_fr (dv_lo g) ks (dv_ct st.heap) (dv_ct t.heap) ∧ dv_mo st.heap t.heap
abbrev dv_rm (fr lc mc ms : Nat) : Room := { frames := fr, cells := mc, slots := ms, locals := lc }
/-- method y: arguments avs, monitors M free or ours, the view meets P; it returns v with S v (old view) (new view); only cells of classes ks change -/
def dv_M (l : Launch) (y : MethodName) (ws : List Cond) (fr lc mc ms : Nat) (g : dv_P) (avs : List Value) (M : List Nat) (P : dv_H → Prop) (ks : List ClassId) (S : Option Value → dv_H → dv_H → Prop) : Prop :=
  Met l y ws (dv_rm fr lc mc ms) (dv_Pc g avs M P) (dv_Qc g ks S) mc ms (fun q => dv_lo g ≤ q)
/-- the words of a contract for the synchronized method y -/
abbrev wsY_ (y : MethodName) (b : ByteArray) (L : Nat) (r : Option FieldType) : List Cond := Cond.codeSync y b L r :: lw_all
theorem dv_blind (g : dv_P) (avs : List Value) (M : List Nat) (P : dv_H → Prop) : FrameBlind (dv_Pc g avs M P) := by
  intro a U f mk h
  obtain ⟨h1, h2, h3, h4⟩ := h
  exact ⟨h1, h2.mv (U := U.calling f mk a) (State.WarmedH.refl U) rfl h2.2.1 (fun _ _ => rfl), h3, h4⟩
/-- the answer that a returning instruction gives -/
def dv_ro (cc : ByteArray) (pc : Nat) (ret : Option FieldType) (v : Option Value) (st : List Value) : Prop :=
  (∃ (x : Int32) (ty : FieldType), ret = some ty ∧ narrow ty (.int x) = .int x ∧ v = some (.int x) ∧ st = [.int x] ∧ decode cc pc = .ok (.ireturn, 1)) ∨
  (∃ (w : Value) (ty : FieldType), ret = some ty ∧ ((∃ n, ty = .object n) ∨ ∃ t, ty = .array t) ∧ (w = .null ∨ ∃ a, w = .ref a) ∧ v = some w ∧ st = [w] ∧ decode cc pc = .ok (.areturn, 1)) ∨
  (ret = none ∧ v = none ∧ st = [] ∧ decode cc pc = .ok (.return_, 1))
theorem dv_roi {cc : ByteArray} {pc : Nat} {x : Int32} (hd : decode cc pc = .ok (.ireturn, 1)) : dv_ro cc pc (some .int) (some (.int x)) [.int x] := Or.inl ⟨x, .int, rfl, rfl, rfl, rfl, hd⟩
theorem dv_roz {cc : ByteArray} {pc : Nat} {x : Int32} (hx : x = 0 ∨ x = 1) (hd : decode cc pc = .ok (.ireturn, 1)) : dv_ro cc pc (some .boolean) (some (.int x)) [.int x] := Or.inl ⟨x, .boolean, rfl, by rcases hx with rfl | rfl <;> first | exact narrow_b0 | exact narrow_b1 | rfl, rfl, rfl, hd⟩
theorem dv_roa {cc : ByteArray} {pc : Nat} {a : Nat} {n : String} (hd : decode cc pc = .ok (.areturn, 1)) : dv_ro cc pc (some (.object n)) (some (.ref a)) [.ref a] := Or.inr (Or.inl ⟨.ref a, .object n, rfl, Or.inl ⟨n, rfl⟩, Or.inr ⟨a, rfl⟩, rfl, rfl, hd⟩)
theorem dv_roq {cc : ByteArray} {pc : Nat} {n : String} (hd : decode cc pc = .ok (.areturn, 1)) : dv_ro cc pc (some (.object n)) (some .null) [.null] := Or.inr (Or.inl ⟨.null, .object n, rfl, Or.inl ⟨n, rfl⟩, Or.inl rfl, rfl, rfl, hd⟩)
theorem dv_roA {cc : ByteArray} {pc : Nat} {a : Nat} {t : FieldType} (hd : decode cc pc = .ok (.areturn, 1)) : dv_ro cc pc (some (.array t)) (some (.ref a)) [.ref a] := Or.inr (Or.inl ⟨.ref a, .array t, rfl, Or.inr ⟨t, rfl⟩, Or.inr ⟨a, rfl⟩, rfl, rfl, hd⟩)
theorem dv_rov {cc : ByteArray} {pc : Nat} (hd : decode cc pc = .ok (.return_, 1)) : dv_ro cc pc none none [] := Or.inr (Or.inr ⟨rfl, rfl, rfl, hd⟩)
/-- a method's locals at its entry -/
abbrev dv_ent (avs : List Value) (nL : Nat) : List Slot := avs.map Slot.val ++ List.replicate (nL - avs.length) Slot.unset
/-- the walk of a body, from its entry; Ret: how it ends -/
def dv_B (l : Launch) (y : MethodName) (cc : ByteArray) (nL : Nat) (ret : Option FieldType) (fr lc mc ms : Nat) (g : dv_P) (avs : List Value) (M : List Nat) (P : dv_H → Prop) (ks : List ClassId) (S : Option Value → dv_H → dv_H → Prop) (lk : Option Addr) (mr : Nat) : Prop :=
  ∀ (p : Program) (e : Env) (s : State) (m : MethodId) (args : Array Value) (below : List Frame) (meth : Method) (c : Code) (Q : State → Prop),
    CallFix p m c cc nL s args lw_all y.cls → meth.name = y.name → dv_K g s → (∀ a ∈ M, dv_en (dv_cu g) a s.heap) → P (dv_ct s.heap) →
    (∀ (h : dv_H) (k n : Nat) (v : Option Value) (pc : Nat) (ls : List Slot) (st : List Value), k ≤ mc → n ≤ ms → S v (dv_ct s.heap) h → dv_fr (dv_lo g) ks (dv_ct s.heap) h → dv_ro cc pc ret v st → dv_V (dv_lo g) p l e (dv_rm fr lc mc ms) s m args below meth c h k n Q (dv_G lk mr m pc ls st)) →
    dv_V (dv_lo g) p l e (dv_rm fr lc mc ms) s m args below meth c (dv_ct s.heap) 0 0 Q (dv_G lk mr m 0 (dv_ent avs nL) [])
theorem dv_of {l : Launch} {y : MethodName} {cc : ByteArray} {nL : Nat} {ret : Option FieldType} {fr lc mc ms : Nat} {g : dv_P} {avs : List Value} {M : List Nat} {P : dv_H → Prop} {ks : List ClassId} {S : Option Value → dv_H → dv_H → Prop}
    (hy : plainFor y = true) (hcat : ∀ v ∈ avs, v.category = 1) (body : dv_B l y cc nL ret fr lc mc ms g avs M P ks S none 0) : dv_M l y (ws_ y cc nL ret) fr lc mc ms g avs M P ks S := by
  refine va_MetF (cc := cc) (maxL := nL) (ret := ret) hy rfl ?_
  intro p e s m args below meth c s₁ B hml hv
  obtain ⟨rfl, hK, hM, hP⟩ := hv
  have hx := B.exec
  have hb := B.bytes
  have hr := B.returns
  have hts := atoms_spec (ws := ws_ y cc nL ret) B.pre
  have hts : ∀ w ∈ lw_all, w.before _ s = true := fun w h => hts w (List.mem_cons_of_mem _ h)
  have hown : s.vm.findClass y.cls = some m.cls := findClass_of_methodNamed B.named
  have hlocks := B.notSynchronized
  have hnm : meth.name = y.name := (name_of_methodNamed B.named B.method).1
  rw [entry_eq m avs hcat nL]
  refine body p e s m _ below meth c _ ⟨hx, hb, hml, hown, hts⟩ hnm hK hM hP ?_ s.heap [] rfl dv_mo.rf (fun q h => by cases h)
  intro h k n v pc ls st hk hn hS hF hro H locs h1 h2 h3
  subst h1
  have hq : ∀ (w : Option Value), w = v → ∀ t : State, t.heap = H → s.WarmedH t.vm → dv_Qc g ks S avs.toArray s (.returned w) t := by
    intro w e t ht _
    subst e
    subst ht
    exact ⟨w, rfl, hS, hF, h2⟩
  refine W.widen (k := mc) (n := ms) hk hn ?_
  rcases hro with ⟨x, ty, e1, e2, rfl, rfl, e5⟩ | ⟨w, ty, e1, e2, e3, rfl, rfl, e5⟩ | ⟨e1, rfl, rfl, e5⟩
  · exact W.zret hx hb (hr.trans e1) e2 (hq _ rfl) h3 e5
  · exact W.aret hx hb (hr.trans e1) e2 e3 (hq _ rfl) h3 e5
  · exact W.vret hx hb (hr.trans e1) (hq _ rfl) h3 e5
theorem dv_left_ct {H : Heap} {a : Nat} {cell : Cell} (hc : H[a]? = some cell) (x : Cell) (hx : dv_er x = dv_er cell) : dv_ct (H.setIfInBounds a x) = dv_ct H := by
  have hlt : a < H.size := (Array.getElem?_eq_some_iff.mp hc).1
  funext q
  by_cases e : q = a
  · subst e
    have e1 : (H.setIfInBounds q x)[q]? = some x := by simp [hlt]
    show ((H.setIfInBounds q x)[q]?).map dv_er = (H[q]?).map dv_er
    rw [e1, hc]
    exact congrArg some hx
  · simp [dv_ct, Array.getElem?_setIfInBounds, Ne.symm e]
set_option maxHeartbeats 4000000 in
theorem dv_ofS {l : Launch} {y : MethodName} {cc : ByteArray} {nL : Nat} {ret : Option FieldType} {fr lc mc ms : Nat} {g : dv_P} {a : Nat} {av : List Value} {M : List Nat} {P : dv_H → Prop} {ks : List ClassId} {S : Option Value → dv_H → dv_H → Prop}
    (hy : plainFor y = true) (hcat : ∀ v ∈ (Value.ref a :: av), v.category = 1) (hinst : Cond.instanceMethod y ∈ lw_all) (haM : a ∈ M) (hlo : dv_lo g ≤ a) (body : dv_B l y cc nL ret fr lc mc ms g (.ref a :: av) M P ks S (some a) 1) : dv_M l y (wsY_ y cc nL ret) fr lc mc ms g (.ref a :: av) M P ks S := by
  intro p e hadm hcas hclk s m args below hf happ hv _
  obtain ⟨rfl, hK, hM, hP⟩ := hv
  obtain ⟨hrun, hable, halone, hname, hhears, hinit, hroom, hpre⟩ := (Spec.appliesLoose_iff hf).mp happ
  have hts1 := atoms_spec (ws := wsY_ y cc nL ret) hpre
  have hts : ∀ w ∈ lw_all, w.before _ s = true := fun w h => hts1 w (List.mem_cons_of_mem _ h)
  obtain ⟨meth, c, hmeth, hcode, hbytes, hlocals, hret, hlocks, -, -⟩ := Cond.codeSync_spec hname (hts1 _ List.mem_cons_self)
  obtain ⟨mk', meth', hn', hm', hst, -⟩ := Cond.instanceMethod_spec (hts _ hinst)
  cases hname.symm.trans hn'
  cases hmeth.symm.trans hm'
  obtain ⟨cell, hcell, hent⟩ := hM a haM
  rw [← hK.1] at hent
  have hx : p.tables.exec = Jvm.exec := by cases p <;> rfl
  have hlt : a < s.heap.size := (Array.getElem?_eq_some_iff.mp hcell).1
  have hcur := State.cur_lt_of_frames hf
  generalize hs' : s.setCell a (cell.withEntry s.cur) = s'
  have hheap : s'.heap = s.heap.setIfInBounds a (cell.withEntry s.cur) := by rw [← hs']; rfl
  have hvm : s'.vm = s.vm := by rw [← hs']; rfl
  have hcu : s'.cur = s.cur := by rw [← hs']; rfl
  have hcell' : s'.heap[a]? = some (cell.withEntry s.cur) := by rw [hheap]; simp [hlt]
  have hoff : ∀ q : Nat, q ≠ a → s'.heap[q]? = s.heap[q]? := fun q hq => by rw [hheap]; simp [Array.getElem?_setIfInBounds, Ne.symm hq]
  have hsz : s'.heap.size = s.heap.size := by rw [hheap]; simp
  have hct : dv_ct s'.heap = dv_ct s.heap := by rw [hheap]; exact dv_left_ct hcell _ rfl
  have hW' : s.WarmedH s'.vm := by rw [hvm]; exact State.WarmedH.refl s
  have hK' : dv_K g s' := hK.mv hW' hcu (by rw [hsz]; exact hK.2.1) (fun q hq => hoff q (fun z => by omega))
  have hM' : ∀ b ∈ M, dv_en (dv_cu g) b s'.heap := by
    intro b hb
    by_cases e : b = a
    · subst e
      refine ⟨_, hcell', Or.inr ⟨?_, ?_⟩⟩
      · rw [← hK.1]; rfl
      · show 1 ≤ cell.monitor.count + 1; omega
    · obtain ⟨cb, z1, z2⟩ := hM b hb
      exact ⟨cb, by rw [hoff b e]; exact z1, z2⟩
  have hts' : ∀ w ∈ lw_all, w.before (Value.ref a :: av).toArray s' = true := fun w h => word_at hW' (good_of_word (List.mem_filter.mp h).2) (hts w h)
  have hown : s'.vm.findClass y.cls = some m.cls := by rw [hvm]; exact findClass_of_methodNamed hname
  have hnm : meth.name = y.name := (name_of_methodNamed hname hmeth).1
  have hf' : s'.frames = .invoking m (Value.ref a :: av).toArray :: below := by rw [← hs']; exact hf
  have hcur' : s'.cur < s'.threads.size := State.cur_lt_of_frames hf'
  generalize hs1 : s'.setFrames (.java (entryFrameSync m (Value.ref a :: av).toArray nL a) :: below) = s₁
  have hf1 : s₁.frames = .java (entryFrameSync m (Value.ref a :: av).toArray nL a) :: below := by rw [← hs1]; exact State.frames_setFrames _ hcur'
  have hvm1 : s₁.vm = s.vm := by rw [← hs1]; exact hvm
  have ht1 := State.topJava?_of_frames hf1
  have hplain : s₁.plainMethod m := by
    have hp0 : s.plainMethod m := State.plainMethod.of_named (s := s) hy hname hmeth
    intro k hk
    exact hp0 k (by rw [← hvm1]; exact hk)
  have hrun1 : s₁.status = .running := by rw [← hs1, ← hs']; exact hrun
  have hAt : At s₁ m c below := by
    refine ⟨by rw [ht1]; rfl, ⟨[], by rw [hf1]; rfl⟩, hrun1, ?_, ?_, ?_, hplain⟩
    · rw [← hs1, ← hs']; simpa using hable
    · rw [← hs1, ← hs']; simpa using halone
    · rw [State.code?_eq, hvm1, hmeth]; simpa using hcode
  obtain ⟨t0, ht0, -⟩ := State.frames_cons hf'
  have X : Stand p l e (dv_rm fr lc mc ms) s' m (Value.ref a :: av).toArray below meth c s₁ [] 0 0 := by
    refine ⟨hadm, hcas, hclk, hf', ?_, ?_, ?_, hcode, hAt, by rw [hf1]; rfl, ?_, ?_, ?_, ?_⟩
    · rw [← hs', State.hasRoom_setCell (x := cell.withEntry s.cur) hcell rfl]; exact hroom
    · rw [← hs']; exact hhears
    · rw [hvm]; exact hmeth
    · rw [hvm1, ← hvm]; exact State.WarmedH.refl s'
    · rw [← hs1, State.stackLimits_setFrames]
    · rw [← hs1, State.stackBytes_setFrames]
    · have z := (State.sameButNew.refl s' (x := t0) ht0).setFrames (.java (entryFrameSync m (Value.ref a :: av).toArray nL a) :: below) hcur'
      rw [hs1] at z
      rw [hvm] at *
      have z2 : s₁.setVm s.vm = s₁ := by rw [← hvm1]; rfl
      rw [z2]; exact z
  have hfull : e.platform.stackFull (s.setFrames below).me (s.setFrames below).frames (c.maxLocals + 2) = false := by
    obtain ⟨-, z1, -, z2⟩ := State.hasRoom_stack hroom
    rw [hf, List.length_cons] at z1
    rw [State.localsInUse_invoking hf hmeth hcode] at z2
    have hw := stackUse_le_stackWeight below
    rw [State.frames_setFrames _ hcur]
    simp only [vmFrameWords] at z2
    exact Platform.stackFull_eq_false (by rw [State.stackLimits_setFrames]; omega) (by rw [State.stackLimits_setFrames]; omega)
  have hstep : (stepThread p.tables e s).1 = s₁.setTop (entryFrameSync m (Value.ref a :: av).toArray nL a) := by
    rw [stepThread_invoking hf, (doInvoke_java_sync (s := s.setFrames below) (e := e) (meth := meth) (code := c) (a := a) (cell := cell) hmeth hcode hlocks hst (by simp) hcell hent.either hfull).1, State.setTop_self ht1, hlocals, ← hs1, ← hs']
    show (((s.setFrames below).setCell a (cell.withEntry s.cur)).setFrames (.java (entryFrameSync m (Value.ref a :: av).toArray nL a) :: ((s.setFrames below).setCell a (cell.withEntry s.cur)).frames)) = _
    rw [show ((s.setFrames below).setCell a (cell.withEntry s.cur)).frames = below from State.frames_setFrames _ hcur, State.setCell_setFrames, State.setFrames_setFrames]
  have hef : entryFrameSync m (Value.ref a :: av).toArray nL a = dv_G (some a) 1 m 0 (dv_ent (.ref a :: av) nL) [] := by
    have e0 := entry_eq m (Value.ref a :: av) hcat nL
    have e1 : argsToLocals (Value.ref a :: av).toArray nL = (dv_ent (.ref a :: av) nL).toArray := congrArg JFrame.locals e0
    show ({ method := m, pc := 0, locals := argsToLocals (Value.ref a :: av).toArray nL, stack := [], locked := some a, monitorRoom := 1 } : JFrame) = _
    rw [e1]
  have K : dv_V (dv_lo g) p l e (dv_rm fr lc mc ms) s' m (Value.ref a :: av).toArray below meth c (dv_ct s'.heap) 0 0 (MQ below (dv_Qc g ks S) (Value.ref a :: av).toArray s mc ms (fun q => dv_lo g ≤ q)) (dv_G (some a) 1 m 0 (dv_ent (.ref a :: av) nL) []) := by
    refine body p e s' m _ below meth c _ ⟨hx, hbytes, hlocals, hown, hts'⟩ hnm hK' hM' (by rw [hct]; exact hP) ?_
    intro h k n v pc ls st hk hn hS hF hro H locs h1 h2 h3 T hT XT
    subst h1
    subst hT
    have XT := stand_widen XT hk hn
    rw [← hs'] at XT
    obtain ⟨cT, w1, w2, -⟩ := XT.cellAt (a := a) (cell := cell.withEntry s.cur) (by rw [hs']; exact hcell')
    have hv0 : meth.sig.returnType = none → v = none := by
      intro z
      rcases hro with ⟨x, ty, e1, -⟩ | ⟨w, ty, e1, -⟩ | ⟨-, e2, -⟩
      · rw [hret, e1] at z; cases z
      · rw [hret, e1] at z; cases z
      · exact e2
    obtain ⟨fs, cellT, q1, q2, q3, q4, q5, q6⟩ := XT.leaveSync hcell hent hlocks (v := v) hv0
    cases w1.symm.trans q1
    have hmethT : T.vm.method? m = some meth := XT.method'
    have hleft : cT.left = { cT with monitor := cell.monitor } := by
      rw [w2, Cell.left_withSlots, Cell.left_withEntry' hent]
      rfl
    have hctT : dv_ct (T.heap.setIfInBounds a cT.left) = dv_ct T.heap := dv_left_ct w1 _ (by rw [hleft]; rfl)
    have hmoT : dv_mo s.heap (T.heap.setIfInBounds a cT.left) := by
      have hltT : a < T.heap.size := (Array.getElem?_eq_some_iff.mp w1).1
      have hz : (T.heap.setIfInBounds a cT.left).size = T.heap.size := by simp
      refine ⟨by rw [hz, ← hsz]; exact h2.1, fun q cq hq => ?_, fun q cq hq hc' => ?_⟩
      · by_cases e : q = a
        · subst e
          cases hcell.symm.trans hq
          exact ⟨cT.left, by simp [hltT], by rw [hleft]⟩
        · obtain ⟨c2, z1, z2⟩ := h2.2.1 q cq (by rw [hoff q e]; exact hq)
          exact ⟨c2, by simp [Array.getElem?_setIfInBounds, Ne.symm e]; exact z1, z2⟩
      · have e : q ≠ a := fun z => by omega
        exact h2.2.2 q cq (by rw [hsz]; exact hq) (by simpa [Array.getElem?_setIfInBounds, Ne.symm e] using hc')
    refine ⟨(T.setCell a cT.left).setFrames fs, ?_, .returned v, q3, q4, ⟨v, rfl, ?_, ?_, hmoT⟩, locs, ⟨⟨_, rfl⟩, q5, q6⟩, h3⟩
    · rcases hro with ⟨x, ty, e1, e2, rfl, rfl, e5⟩ | ⟨w, ty, e1, e2, e3, rfl, rfl, e5⟩ | ⟨e1, rfl, rfl, e5⟩
      · have hr := hret.trans e1
        jvm_step XT.here [XT.here.top, hx, hbytes, e5, hmethT, hr, e2]
        (try refine ⟨rfl, ?_⟩); (try refine ⟨rfl, ?_⟩)
        first | (intro acts; rw [q2 _ acts rfl rfl rfl]) | rw [q2 _ _ rfl rfl rfl]
        exact Steps.refl _
      · have hr := hret.trans e1
        rcases e2 with ⟨n, rfl⟩ | ⟨t, rfl⟩ <;> rcases e3 with rfl | ⟨b, rfl⟩ <;>
          (jvm_step XT.here [XT.here.top, hx, hbytes, e5, hmethT, hr]
           (try refine ⟨rfl, ?_⟩); (try refine ⟨rfl, ?_⟩)
           first | (intro acts; rw [q2 _ acts rfl rfl rfl]) | rw [q2 _ _ rfl rfl rfl]
           exact Steps.refl _)
      · have hr := hret.trans e1
        jvm_step XT.here [XT.here.top, hx, hbytes, e5, hmethT, hr]
        (try refine ⟨rfl, ?_⟩); (try refine ⟨rfl, ?_⟩)
        first | (intro acts; rw [q2 _ acts rfl rfl rfl]) | rw [q2 _ _ rfl rfl rfl]
        exact Steps.refl _
    · show S v (dv_ct s.heap) (dv_ct (T.heap.setIfInBounds a cT.left))
      rw [hctT, ← hct]; exact hS
    · show dv_fr (dv_lo g) ks (dv_ct s.heap) (dv_ct (T.heap.setIfInBounds a cT.left))
      rw [hctT, ← hct]; exact hF
  obtain ⟨t, a1, o, b1, b2, b3, L, b4, b5⟩ := K s'.heap [] rfl dv_mo.rf (fun q h => by cases h) s₁ (by rw [← hs1]; rfl) X
  rw [← hef] at a1
  obtain ⟨n, hn, hw⟩ := Steps.head (tb := p.tables) (e := e) ⟨hrun, hable, halone⟩ ⟨[.invoking m (Value.ref a :: av).toArray], hf, by simp, by simp⟩ (hstep ▸ a1)
  exact ⟨n, o, hw, hn ▸ b1, hn ▸ b2, hn ▸ ⟨b3, L, b4, b5⟩⟩
end
section
/-! ===== calls over views: plain and synchronized callees ===== -/
set_option maxRecDepth 100000
section DBK
variable {l : Launch} {R : Room} {p : Program} {e : Env} {below : List Frame} {s : State} {sargs : Array Value} {y : MethodName} {len W : Nat}
/-- a synchronized callee comes back, by its contract -/
theorem dv_bkS {ws : List Cond} {rm : Room} {Pc : Array Value → State → Prop} {Qc : Array Value → State → Outcome → State → Prop} {mc ms : Nat} {free : Addr → Prop} {bytes : ByteArray} {maxL : Nat} {ret : Option FieldType}
    (hM : Met l y ws rm Pc Qc mc ms free) (hblind : FrameBlind Pc) (hrc : rm.cells = mc) (hrs : rm.slots = ms) (hframes : rm.frames + 1 ≤ R.frames) (hlocals : W + (maxL + 11) + rm.locals ≤ R.locals)
    (hws : ∀ w ∈ ws, ∀ a' U, s.WarmedH U.vm → w.before a' U = true) (hcode : Cond.codeSync y bytes maxL ret ∈ ws) (hinit : ∀ a' U, s.WarmedH U.vm → (Cond.initialized y.cls).before a' U = true) :
    Back l R p e below s sargs y len W (PreOf R mc ms Pc) (PostOf Qc mc ms free) := by
  intro m meth c A g ig mk a X hg hsize hdg hW hn hp
  subst hg
  obtain ⟨U, Ls, c0, s0⟩ := A
  dsimp only [Pt.U, Pt.locs, Pt.cells, Pt.slots] at X hn ⊢
  obtain ⟨methY, cY, hmY, hcY, -, hlY, -⟩ := Cond.codeSync_spec hn (hws _ hcode a U X.warmed)
  obtain ⟨kY, hkY, -⟩ := className_of_methodNamed hn
  have hiY := Cond.initialized_spec (findClass_of_methodNamed hn) hkY (hinit a U X.warmed)
  have happ : (headSpec ws rm).appliesLoose y e.platform (U.calling g mk a) = true :=
    Spec.appliesLoose_calling (g := g) X.here hdg hn hkY hiY (X.room_calling (g := g) (R' := rm) hsize hmY hcY hframes (by rw [hlY]; omega) (by rw [hrc]; exact hp.1) (by rw [hrs]; exact hp.2.1))
      (atoms_intro fun w hw => hws w hw _ _ X.warmed)
  obtain ⟨mid, hmid⟩ := X.here.above
  have hfr : (U.setTop g).frames = (.java g :: mid) ++ below := by rw [State.frames_setTop' g X.here.top, hmid]; rfl
  obtain ⟨o, t, hsteps, -, hend, hq, L, ⟨⟨v, rfl⟩, hWt, hsb⟩, hL⟩ := Steps.callFree hM p X.admits X.cas X.clock (acts := []) hfr happ (hblind _ _ _ _ hp.2.2) trivial
  rw [State.frames_setTop' g X.here.top] at hend
  have hsb : (U.calling g mk a).sameButNew ({ t with vm := (U.calling g mk a).vm } : State) L mc ms := hsb
  obtain ⟨c2, i2, len2, hc2, hd2, hf2⟩ := hend
  have hW' : U.WarmedH t.vm := hWt
  have hcc : c2 = c := Option.some.inj (hc2.symm.trans ((show t.code? g.method = U.code? g.method by rw [State.code?_eq, State.code?_eq, hW'.alike.method?]).trans X.here.code))
  subst hcc
  have hlen : len2 = len := by rw [hdg] at hd2; cases hd2; rfl
  subst hlen
  obtain ⟨g0, hg0⟩ := Option.isSome_iff_exists.mp X.here.top
  obtain ⟨r, hr⟩ := State.topJava?_eq_some.mp hg0
  generalize hU2 : (({ U with heap := t.heap, slotsUsed := t.slotsUsed } : State).setVm t.vm) = U2
  have hU2f : U2.frames = .java g0 :: r := by rw [← hU2]; exact hr
  have ht2 : t = U2.setTop { g with pc := g.pc + len2, stack := v.toList ++ g.stack } := by
    have e2 : t = ({ (U.calling g mk a).setFrames t.frames with heap := t.heap, slotsUsed := t.slotsUsed } : State).setVm t.vm := by
      have e3 : t = ({ t with vm := (U.calling g mk a).vm } : State).setVm t.vm := rfl
      rw [hsb.1] at e3
      exact e3
    refine e2.trans ?_
    rw [hf2, State.calling_eq X.here.top, State.setFrames_setFrames, State.setTop_of_frames _ hU2f, ← hU2, hr]
    rfl
  have hsame : U.sameButNew (U2.setVm U.vm) L mc ms := by
    obtain ⟨-, q2, q3, q4, q5, q6⟩ := hsb
    obtain ⟨tt, htt, -⟩ := State.frames_cons hr
    rw [← hU2]
    refine ⟨?_, q2, q3, q4, q5, q6⟩
    show ({ U with heap := t.heap, slotsUsed := t.slotsUsed } : State) = { U.setFrames U.frames with heap := t.heap, slotsUsed := t.slotsUsed }
    rw [State.setFrames_self htt]
  have hAt : At U2 g.method c2 below := by rw [← hU2]; exact (X.here.setHeapUsed t.heap t.slotsUsed).setVm hW'.alike
  have X2 := X.moved (T₂ := U2) (l₂ := L) (c₂ := mc) (n₂ := ms) hAt (by rw [← hU2]; exact X.tail) (by rw [← hU2]; rfl) (by rw [← hU2]; rfl) (by rw [← hU2]; exact hW') hsame
  refine ⟨v, ⟨U2, Ls ++ L, c0 + mc, s0 + ms⟩, X2, ⟨g, mk, t, L, by rw [← hU2]; rfl, by rw [← hU2]; rfl, hq, rfl, hL, rfl, rfl⟩, ?_⟩
  show Steps p.tables e below _ (U2.setTop { g with pc := g.pc + len2, stack := v.toList ++ g.stack })
  rw [← ht2]
  exact hsteps
end DBK
section DVC
variable {g : dv_P} {p : Program} {l : Launch} {e : Env} {R : Room} {s : State} {m : MethodId} {args : Array Value} {below : List Frame} {meth : Method} {c : Code} {h : dv_H} {k n : Nat} {Q : State → Prop}
variable {lk : Option Addr} {mr : Nat} {pc nL : Nat} {ls : List Slot} {st rest : List Value} {cc : ByteArray} {own : String}
variable {y : MethodName} {bytes : ByteArray} {maxL : Nat} {ret : Option FieldType} {fr lc mc ms : Nat} {avs : List Value} {M : List Nat} {P : dv_H → Prop} {ks ks0 : List ClassId} {n9 : Nat} {S : Option Value → dv_H → dv_H → Prop}
/-- what a call asks of the caller's place: the frame since the start, the monitors, the callee's start, room for its cells -/
abbrev dv_A (g : dv_P) (R : Room) (s : State) (h : dv_H) (k n mc ms : Nat) (M : List Nat) (P : dv_H → Prop) : Prop :=
  (∃ ks0, dv_fr (dv_lo g) ks0 (dv_ct s.heap) h) ∧ (∀ a ∈ M, dv_en (dv_cu g) a s.heap ∨ (s.heap.size ≤ a ∧ ∃ x, h a = some x)) ∧ P h ∧ k + mc ≤ R.cells ∧ n + ms ≤ R.slots
theorem dv_core {len : Nat} (hK : dv_K g s) (hA : dv_A g R s h k n mc ms M P)
    (hcall : ∀ (T : State) (locs : List Loc), Stand p l e R s m args below meth c T locs k n → dv_ct T.heap = h → (∀ vm₁, s.WarmedH vm₁ → PreOf R mc ms (dv_Pc g avs M P) ⟨T.setVm vm₁, locs, k, n⟩ avs.toArray) →
      ∃ (v : Option Value) (vm₁ : Vm) (B : Pt), s.WarmedH vm₁ ∧ Stand p l e R s m args below meth c B.U B.locs B.cells B.slots ∧ PostOf (dv_Qc g ks S) mc ms (fun q => dv_lo g ≤ q) ⟨T.setVm vm₁, locs, k, n⟩ avs.toArray v B ∧
        ∀ target, Steps p.tables e below (B.U.setTop (dv_G lk mr m (pc + len) ls (v.toList ++ rest))) target → Steps p.tables e below (T.setTop (dv_G lk mr m pc ls st)) target)
    (kk : ∀ (v : Option Value) (h1 : dv_H), S v h h1 → dv_fr (dv_lo g) ks h h1 → dv_V (dv_lo g) p l e R s m args below meth c h1 (k + mc) (n + ms) Q (dv_G lk mr m (pc + len) ls (v.toList ++ rest))) :
    dv_V (dv_lo g) p l e R s m args below meth c h k n Q (dv_G lk mr m pc ls st) := by
  obtain ⟨⟨ks0, hF⟩, hM, hP, hk, hn⟩ := hA
  intro H locs h1 h2 h3 T hT X
  subst hT
  subst h1
  have hcT : T.cur = s.cur := by
    have z := congrArg State.cur X.same.1
    exact z
  have hpre : ∀ vm₁, s.WarmedH vm₁ → PreOf R mc ms (dv_Pc g avs M P) ⟨T.setVm vm₁, locs, k, n⟩ avs.toArray := by
    intro vm₁ hW
    refine ⟨hk, hn, rfl, hK.mv (U := T.setVm vm₁) hW hcT (Nat.le_trans hK.2.1 h2.1) (fun q hq => dv_low hF h2 hK.2.1 q hq), fun a ha => ?_, hP⟩
    rcases hM a ha with z | ⟨z1, x, z2⟩
    · exact z.mo h2
    · exact dv_en.new h2 z1 z2
  obtain ⟨v, vm₁, ⟨U', l2, c2, s2⟩, hW₁, X', ⟨g', mk, t, L, e1, e2, ⟨v', hv', hS, hfr, hmo⟩, e3, hL, e4, e5⟩, stp⟩ := hcall T locs X rfl hpre
  dsimp only [Pt.U, Pt.locs, Pt.cells, Pt.slots] at X' e1 e2 e3 e4 e5 stp
  subst e3; subst e4; subst e5
  cases hv'
  obtain ⟨t2, a1, b1⟩ := kk v (dv_ct t.heap) hS hfr U'.heap (locs ++ L) (by rw [e1]) (h2.trans (by rw [e1]; exact hmo)) (fun q hq => by
    rcases List.mem_append.mp hq with z | z
    · exact h3 q z
    · exact hL q z) U' rfl X'
  exact ⟨t2, stp t2 a1, b1⟩
/-- the room that a callee asks of the caller -/
abbrev dv_R (R : Room) (fr lc maxL mr : Nat) (rest : List Value) : Prop := (fr + 1 ≤ R.frames ∧ 8 + (maxL + 11) + lc ≤ R.locals) ∧ 2 * mr + (rest.map fun v => v.category).sum ≤ 8
theorem dv_good {w : Cond} (h : w ∈ lw_all) {args : Array Value} {s : State} (hts : ∀ w ∈ lw_all, w.before args s = true) : ∀ (a' : Array Value) (U : State), s.WarmedH U.vm → w.before a' U = true :=
  fun _ _ hW => word_at hW (good_of_word (List.mem_filter.mp h).2) (hts w h)
theorem dv_wm {w0 : Cond} (hc : w0 ∈ lw_all) {args : Array Value} {s : State} (hts : ∀ w ∈ lw_all, w.before args s = true) : ∀ w ∈ w0 :: lw_all, ∀ (a' : Array Value) (U : State), s.WarmedH U.vm → w.before a' U = true := by
  intro w hw
  rcases List.mem_cons.mp hw with z | z
  · rw [z]
    exact dv_good hc hts
  · exact dv_good z hts
theorem dv_back {len : Nat} (hts : ∀ w ∈ lw_all, w.before args s = true) (hM : dv_M l y (ws_ y bytes maxL ret) fr lc mc ms g avs M P ks S) (hcode : Cond.code y bytes maxL ret ∈ lw_all) (hini : Cond.initialized y.cls ∈ lw_all) (hR : fr + 1 ≤ R.frames ∧ 8 + (maxL + 11) + lc ≤ R.locals) :
    Back l R p e below s args y len 8 (PreOf R mc ms (dv_Pc g avs M P)) (PostOf (dv_Qc g ks S) mc ms (fun q => dv_lo g ≤ q)) :=
  back_of (bytes := bytes) (maxL := maxL) (ret := ret) hM (dv_blind g avs M P) rfl rfl hR.1 hR.2 (dv_wm hcode hts) List.mem_cons_self (dv_good hini hts)
theorem dv_backS {len : Nat} (hts : ∀ w ∈ lw_all, w.before args s = true) (hM : dv_M l y (wsY_ y bytes maxL ret) fr lc mc ms g avs M P ks S) (hcode : Cond.codeSync y bytes maxL ret ∈ lw_all) (hini : Cond.initialized y.cls ∈ lw_all) (hR : fr + 1 ≤ R.frames ∧ 8 + (maxL + 11) + lc ≤ R.locals) :
    Back l R p e below s args y len 8 (PreOf R mc ms (dv_Pc g avs M P)) (PostOf (dv_Qc g ks S) mc ms (fun q => dv_lo g ≤ q)) :=
  dv_bkS (bytes := bytes) (maxL := maxL) (ret := ret) hM (dv_blind g avs M P) rfl rfl hR.1 hR.2 (dv_wm hcode hts) List.mem_cons_self (dv_good hini hts)
theorem dv_len {d : String} {n0 : Nat} (h : (parseMethodDescriptor d).map (fun d => d.parameters.length) = some n0) : ∀ sig, parseMethodDescriptor d = some sig → n0 = sig.parameters.length := by
  intro sig hs
  rw [hs] at h
  exact (Option.some.inj h).symm
theorem dv_sz (hsz : ls.length = nL) : ls.toArray.size = nL := by simpa using hsz
theorem dv_m0 {P : Nat → Prop} : ∀ a ∈ ([] : List Nat), P a := fun _ z => absurd z List.not_mem_nil
theorem dv_mI {P : Nat → Prop} {M : List Nat} (hM : ∀ a ∈ M, dv_en (dv_cu g) a s.heap) : ∀ a ∈ M, dv_en (dv_cu g) a s.heap ∨ P a := fun a ha => Or.inl (hM a ha)
/-- invokestatic -/
theorem dv_cS (cx : CallFix p m c cc nL s args lw_all own) (hK : dv_K g s) {index : Nat} (hM : dv_M l y (ws_ y bytes maxL ret) fr lc mc ms g avs M P ks S)
    (hlink : Cond.methodLink own index y ∈ lw_all) (hstat : Cond.static y ∈ lw_all) (hini : Cond.initialized y.cls ∈ lw_all) (hcode : Cond.code y bytes maxL ret ∈ lw_all) (hy : y.cls ≠ "java/lang/invoke/MethodHandle" ∧ y.cls ≠ "java/lang/invoke/VarHandle" ∧ (parseMethodDescriptor y.desc).map (fun d => d.parameters.length) = some n9) (h9 : avs.length = n9)
    (hA : dv_A g R s h k n mc ms M P) (hR : dv_R R fr lc maxL mr rest) (hsz : ls.length = nL) (hst : st = avs.reverse ++ rest) (hd : decode cc pc = .ok (.invokestatic index, 3))
    (kk : ∀ (v : Option Value) (h1 : dv_H), S v h h1 → dv_fr (dv_lo g) ks h h1 → dv_V (dv_lo g) p l e R s m args below meth c h1 (k + mc) (n + ms) Q (dv_G lk mr m (pc + 3) ls (v.toList ++ rest))) :
    dv_V (dv_lo g) p l e R s m args below meth c h k n Q (dv_G lk mr m pc ls st) := by
  obtain ⟨hx, hb, hml, hown, hts⟩ := cx
  refine dv_core (avs := avs) (len := 3) hK hA (fun T locs X hT hpre => ?_) kk
  exact callS X hx (bytes := bytes) (maxL := maxL) (ret := ret) hown (hts _ hlink) (hts _ hstat) (hts _ hini) (hts _ hcode) ⟨hy.1, hy.2.1⟩ (dv_back hts hM hcode hini hR.1) (g := dv_G lk mr m pc ls st) rfl (by rw [hml]; exact dv_sz hsz) (argsL := avs) (rest := rest) (dv_len (h9 ▸ hy.2.2)) hst hR.2 (by rw [hb]; exact hd) hpre
/-- invokespecial of a constructor -/
theorem dv_cI {av : List Value} {a : Nat} (cx : CallFix p m c cc nL s args lw_all own) (hK : dv_K g s) {index : Nat} (hM : dv_M l y (ws_ y bytes maxL none) fr lc mc ms g (.ref a :: av) M P ks S)
    (hlink : Cond.methodLink own index y ∈ lw_all) (hinst : Cond.instanceMethod y ∈ lw_all) (hini : Cond.initialized y.cls ∈ lw_all) (hcode : Cond.code y bytes maxL none ∈ lw_all) (hy1 : y.name = "<init>") (hy : y.cls ≠ "java/lang/invoke/MethodHandle" ∧ y.cls ≠ "java/lang/invoke/VarHandle" ∧ (parseMethodDescriptor y.desc).map (fun d => d.parameters.length) = some n9) (h9 : av.length = n9)
    (hA : dv_A g R s h k n mc ms M P) (hR : dv_R R fr lc maxL mr rest) (hsz : ls.length = nL) (hst : st = av.reverse ++ .ref a :: rest) (hd : decode cc pc = .ok (.invokespecial index, 3))
    (kk : ∀ (v : Option Value) (h1 : dv_H), S v h h1 → dv_fr (dv_lo g) ks h h1 → dv_V (dv_lo g) p l e R s m args below meth c h1 (k + mc) (n + ms) Q (dv_G lk mr m (pc + 3) ls (v.toList ++ rest))) :
    dv_V (dv_lo g) p l e R s m args below meth c h k n Q (dv_G lk mr m pc ls st) := by
  obtain ⟨hx, hb, hml, hown, hts⟩ := cx
  refine dv_core (avs := .ref a :: av) (len := 3) hK hA (fun T locs X hT hpre => ?_) kk
  exact callI X hx (bytes := bytes) (maxL := maxL) hown hy1 (hts _ hlink) (hts _ hinst) (hts _ hcode) ⟨hy.1, hy.2.1⟩ (dv_back hts hM hcode hini hR.1) (g := dv_G lk mr m pc ls st) rfl (by rw [hml]; exact dv_sz hsz) (a := a) (argsL := av) (rest := rest) (dv_len (h9 ▸ hy.2.2)) hst hR.2 (by rw [hb]; exact hd) hpre
/-- the receiver: an object of the class named C -/
abbrev dv_rc (s : State) (h : dv_H) (a : Nat) (C : String) : Prop := ∃ x : Cell, h a = some x ∧ x.vm.isStatics = false ∧ s.vm.findClass C = some x.cls
theorem dv_rcell {T : State} {a : Nat} {C : String} (hT : dv_ct T.heap = h) (hr : dv_rc s h a C) : ∃ cell : Cell, T.heap[a]? = some cell ∧ cell.vm.isStatics = false ∧ s.vm.findClass C = some cell.cls := by
  obtain ⟨x, h1, h2, h3⟩ := hr
  rw [← hT] at h1
  obtain ⟨cell, r1, r2⟩ := dv_cell h1
  exact ⟨cell, r1, by rw [← h2, ← r2]; rfl, by rw [h3, ← r2]; rfl⟩
/-- invokevirtual of a plain method named where it is declared, that the receiver's class has as it is -/
theorem dv_cV {av : List Value} {a : Nat} {C : String} (cx : CallFix p m c cc nL s args lw_all own) (hK : dv_K g s) {index : Nat} (hM : dv_M l y (ws_ y bytes maxL ret) fr lc mc ms g (.ref a :: av) M P ks S)
    (hlink : Cond.methodLink own index y ∈ lw_all) (hinst : Cond.instanceMethod y ∈ lw_all) (hsel : Cond.selects C y y ∈ lw_all) (hini : Cond.initialized y.cls ∈ lw_all) (hcode : Cond.code y bytes maxL ret ∈ lw_all) (hy : y.cls ≠ "java/lang/invoke/MethodHandle" ∧ y.cls ≠ "java/lang/invoke/VarHandle" ∧ (parseMethodDescriptor y.desc).map (fun d => d.parameters.length) = some n9) (h9 : av.length = n9)
    (hr : dv_rc s h a C) (hA : dv_A g R s h k n mc ms M P) (hR : dv_R R fr lc maxL mr rest) (hsz : ls.length = nL) (hst : st = av.reverse ++ .ref a :: rest) (hd : decode cc pc = .ok (.invokevirtual index, 3))
    (kk : ∀ (v : Option Value) (h1 : dv_H), S v h h1 → dv_fr (dv_lo g) ks h h1 → dv_V (dv_lo g) p l e R s m args below meth c h1 (k + mc) (n + ms) Q (dv_G lk mr m (pc + 3) ls (v.toList ++ rest))) :
    dv_V (dv_lo g) p l e R s m args below meth c h k n Q (dv_G lk mr m pc ls st) := by
  obtain ⟨hx, hb, hml, hown, hts⟩ := cx
  refine dv_core (avs := .ref a :: av) (len := 3) hK hA (fun T locs X hT hpre => ?_) kk
  obtain ⟨cell, r1, r2, r3⟩ := dv_rcell hT hr
  exact callV X hx (C := C) (bytes := bytes) (maxL := maxL) (ret := ret) hown (hts _ hlink) (hts _ hinst) (hts _ hsel) (hts _ hcode) ⟨hy.1, hy.2.1⟩ (dv_back hts hM hcode hini hR.1) r1 r2 r3 (g := dv_G lk mr m pc ls st) rfl (by rw [hml]; exact dv_sz hsz) (argsL := av) (rest := rest) (dv_len (h9 ▸ hy.2.2)) hst hR.2 (by rw [hb]; exact hd) hpre
/-- the same, synchronized -/
theorem dv_cVS {av : List Value} {a : Nat} {C : String} (cx : CallFix p m c cc nL s args lw_all own) (hK : dv_K g s) {index : Nat} (hM : dv_M l y (wsY_ y bytes maxL ret) fr lc mc ms g (.ref a :: av) M P ks S)
    (hlink : Cond.methodLink own index y ∈ lw_all) (hinst : Cond.instanceMethod y ∈ lw_all) (hsel : Cond.selects C y y ∈ lw_all) (hini : Cond.initialized y.cls ∈ lw_all) (hcode : Cond.codeSync y bytes maxL ret ∈ lw_all) (hy : y.cls ≠ "java/lang/invoke/MethodHandle" ∧ y.cls ≠ "java/lang/invoke/VarHandle" ∧ (parseMethodDescriptor y.desc).map (fun d => d.parameters.length) = some n9) (h9 : av.length = n9)
    (hr : dv_rc s h a C) (hA : dv_A g R s h k n mc ms M P) (hR : dv_R R fr lc maxL mr rest) (hsz : ls.length = nL) (hst : st = av.reverse ++ .ref a :: rest) (hd : decode cc pc = .ok (.invokevirtual index, 3))
    (kk : ∀ (v : Option Value) (h1 : dv_H), S v h h1 → dv_fr (dv_lo g) ks h h1 → dv_V (dv_lo g) p l e R s m args below meth c h1 (k + mc) (n + ms) Q (dv_G lk mr m (pc + 3) ls (v.toList ++ rest))) :
    dv_V (dv_lo g) p l e R s m args below meth c h k n Q (dv_G lk mr m pc ls st) := by
  obtain ⟨hx, hb, hml, hown, hts⟩ := cx
  refine dv_core (avs := .ref a :: av) (len := 3) hK hA (fun T locs X hT hpre => ?_) kk
  obtain ⟨cellB, r1, r2, r3⟩ := dv_rcell hT hr
  obtain ⟨mk, methM, hnamed, hmethM, hstM, habM⟩ := Cond.instanceMethod_spec (hts _ hinst)
  obtain ⟨methM', cM, hmethM', -, -, -, -, -, -, hsigM⟩ := Cond.codeSync_spec hnamed (hts _ hcode)
  cases hmethM.symm.trans hmethM'
  obtain ⟨c2, r2', m2, q1, q2, q3, q4, kP, hkP, hkPi⟩ := Cond.selects_spec (hts _ hsel)
  cases r3.symm.trans q1
  cases (State.methodFound?_of_named hnamed ⟨hy.1, hy.2.1⟩).symm.trans q2
  cases hnamed.symm.trans q3
  have hselP : selectMethod e.platform s.vm cellB.cls mk = .method mk := by rw [Launch.admits_selectMethod X.admits]; exact q4
  obtain ⟨vm₁, X₁, hstep₁⟩ := X.invokevirtual hx hown (hts _ hlink) hnamed hmethM hstM hkP hkPi ⟨hy.1, hy.2.1⟩ (a := a) (cell := cellB) r1
    (fun z hz => by rw [hz] at r2; cases r2) hselP hmethM habM hkP hkPi (g := dv_G lk mr m pc ls st) rfl (argsL := av) (rest := rest) (dv_len (h9 ▸ hy.2.2) _ hsigM) hst (by rw [hb]; exact hd)
  obtain ⟨v, B, X', hpost, hsteps⟩ := dv_backS (len := 3) (R := R) hts hM hcode hini hR.1 m meth c ⟨T.setVm vm₁, locs, k, n⟩ (dv_G lk mr m pc ls rest) (.invokevirtual index) mk (Value.ref a :: av).toArray X₁ rfl (by rw [hml]; exact dv_sz hsz) (by rw [hb]; exact hd) hR.2 (X₁.named hnamed) (hpre vm₁ X₁.warmed)
  exact ⟨v, vm₁, B, X₁.warmed, X', hpost, fun target h => hstep₁ _ fun acts => by rw [doInvoke_state]; exact hsteps.trans h⟩
/-- where an invokevirtual of the method x, declared by 'owner', goes: to y; whatever y is (plain, synchronized), by its 'Back' -/
theorem dv_up0 {av : List Value} {a : Nat} {C owner : String} {x : MethodName} (cx : CallFix p m c cc nL s args lw_all own) (hK : dv_K g s) {index : Nat}
    (hB : Back l R p e below s args y 3 8 (PreOf R mc ms (dv_Pc g (.ref a :: av) M P)) (PostOf (dv_Qc g ks S) mc ms (fun q => dv_lo g ≤ q)))
    (hlink : Cond.methodLink own index x ∈ lw_all) (hsame : Cond.sameMethod x.cls owner x.name x.desc ∈ lw_all) (hd0 : va_Decl s ⟨owner, x.name, x.desc⟩) (hinst : Cond.instanceMethod y ∈ lw_all)
    (hsel : ∀ r0 r : MethodId, ∀ cB : ClassId, s.methodNamed? ⟨owner, x.name, x.desc⟩ = some r0 → s.methodNamed? y = some r → s.vm.findClass C = some cB → s.methodFound? x.cls x.name x.desc = some r0 → selectMethod {} s.vm cB r0 = .method r ∧ ∃ kP : Class, s.vm.classes[r.cls]? = some kP ∧ kP.isInterface = false)
    (hy : owner ≠ "java/lang/invoke/MethodHandle" ∧ owner ≠ "java/lang/invoke/VarHandle" ∧ (parseMethodDescriptor x.desc).map (fun d => d.parameters.length) = some n9) (h9 : av.length = n9)
    (hr : dv_rc s h a C) (hA : dv_A g R s h k n mc ms M P) (hR2 : 2 * mr + (rest.map fun v => v.category).sum ≤ 8) (hsz : ls.length = nL) (hst : st = av.reverse ++ .ref a :: rest) (hd : decode cc pc = .ok (.invokevirtual index, 3))
    (kk : ∀ (v : Option Value) (h1 : dv_H), S v h h1 → dv_fr (dv_lo g) ks h h1 → dv_V (dv_lo g) p l e R s m args below meth c h1 (k + mc) (n + ms) Q (dv_G lk mr m (pc + 3) ls (v.toList ++ rest))) :
    dv_V (dv_lo g) p l e R s m args below meth c h k n Q (dv_G lk mr m pc ls st) := by
  obtain ⟨hx, hb, hml, hown, hts⟩ := cx
  refine dv_core (avs := .ref a :: av) (len := 3) hK hA (fun T locs X hT hpre => ?_) kk
  obtain ⟨cellB, r1, r2, r3⟩ := dv_rcell hT hr
  obtain ⟨r0, rm0, hn, hrm, hstR, hsigR⟩ := hd0
  obtain ⟨cn, ck, r1', hcn, hck, hni, hf, hn1⟩ := Cond.sameMethod_found (hts _ hsame)
  cases hn.symm.trans hn1
  obtain ⟨mk, methM, hnamed, hmethM, -, habM⟩ := Cond.instanceMethod_spec (hts _ hinst)
  obtain ⟨q4, kP, hkP, hkPi⟩ := hsel r0 mk cellB.cls hn hnamed r3 hf
  have hselP : selectMethod e.platform s.vm cellB.cls r0 = .method mk := by rw [Launch.admits_selectMethod X.admits]; exact q4
  obtain ⟨vm₁, X₁, hstep₁⟩ := X.invokevirtualUp hx hown (hts _ hlink) (hts _ hsame) ⟨hy.1, hy.2.1⟩ hn hrm hstR (a := a) (cell := cellB) r1
    (fun z hz => by rw [hz] at r2; cases r2) hselP hmethM habM hkP hkPi (g := dv_G lk mr m pc ls st) rfl (argsL := av) (rest := rest) (dv_len (h9 ▸ hy.2.2) _ hsigR) hst (by rw [hb]; exact hd)
  obtain ⟨v, B, X', hpost, hsteps⟩ := hB m meth c ⟨T.setVm vm₁, locs, k, n⟩ (dv_G lk mr m pc ls rest) (.invokevirtual index) mk (Value.ref a :: av).toArray X₁ rfl (by rw [hml]; exact dv_sz hsz) (by rw [hb]; exact hd) hR2 (X₁.named hnamed) (hpre vm₁ X₁.warmed)
  exact ⟨v, vm₁, B, X₁.warmed, X', hpost, fun target h => hstep₁ _ fun acts => by rw [doInvoke_state]; exact hsteps.trans h⟩
theorem dv_sel {C : String} {x : MethodName} {args : Array Value} (hs : (Cond.selects C x y).before args s = true) : ∀ r0 r : MethodId, ∀ cB : ClassId, s.methodNamed? y = some r → s.vm.findClass C = some cB → s.methodFound? x.cls x.name x.desc = some r0 → selectMethod {} s.vm cB r0 = .method r ∧ ∃ kP : Class, s.vm.classes[r.cls]? = some kP ∧ kP.isInterface = false := by
  intro r0 r cB h1 h2 h3
  obtain ⟨c2, r2, m2, q1, q2, q3, q4, kP, hkP, hkPi⟩ := Cond.selects_spec hs
  cases h2.symm.trans q1
  cases h3.symm.trans q2
  cases h1.symm.trans q3
  exact ⟨q4, kP, hkP, hkPi⟩
theorem dv_declS {x : MethodName} {b : ByteArray} {L : Nat} {r : Option FieldType} {args : Array Value} (h1 : (Cond.instanceMethod x).before args s = true) (h2 : (Cond.codeSync x b L r).before args s = true) : va_Decl s x := by
  obtain ⟨r0, rm0, hn, hrm, hst, -⟩ := Cond.instanceMethod_spec h1
  obtain ⟨r', c0, hrm', -, -, -, -, -, -, hsig⟩ := Cond.codeSync_spec hn h2
  cases hrm.symm.trans hrm'
  exact ⟨r0, rm0, hn, hrm, hst, hsig⟩
/-- an inherited synchronized method -/
theorem dv_cUS {av : List Value} {a : Nat} {C : String} {x : MethodName} (cx : CallFix p m c cc nL s args lw_all own) (hK : dv_K g s) {index : Nat} (hM : dv_M l y (wsY_ y bytes maxL ret) fr lc mc ms g (.ref a :: av) M P ks S) (hyx : y = ⟨y.cls, x.name, x.desc⟩)
    (hlink : Cond.methodLink own index x ∈ lw_all) (hsame : Cond.sameMethod x.cls y.cls x.name x.desc ∈ lw_all) (hinst : Cond.instanceMethod y ∈ lw_all) (hsel : Cond.selects C x y ∈ lw_all) (hini : Cond.initialized y.cls ∈ lw_all) (hcode : Cond.codeSync y bytes maxL ret ∈ lw_all) (hy : y.cls ≠ "java/lang/invoke/MethodHandle" ∧ y.cls ≠ "java/lang/invoke/VarHandle" ∧ (parseMethodDescriptor x.desc).map (fun d => d.parameters.length) = some n9) (h9 : av.length = n9)
    (hr : dv_rc s h a C) (hA : dv_A g R s h k n mc ms M P) (hR : dv_R R fr lc maxL mr rest) (hsz : ls.length = nL) (hst : st = av.reverse ++ .ref a :: rest) (hd : decode cc pc = .ok (.invokevirtual index, 3))
    (kk : ∀ (v : Option Value) (h1 : dv_H), S v h h1 → dv_fr (dv_lo g) ks h h1 → dv_V (dv_lo g) p l e R s m args below meth c h1 (k + mc) (n + ms) Q (dv_G lk mr m (pc + 3) ls (v.toList ++ rest))) :
    dv_V (dv_lo g) p l e R s m args below meth c h k n Q (dv_G lk mr m pc ls st) :=
  dv_up0 (C := C) (owner := y.cls) (x := x) (y := y) cx hK (dv_backS cx.2.2.2.2 hM hcode hini hR.1) hlink hsame (by rw [← hyx]; exact dv_declS (cx.2.2.2.2 _ hinst) (cx.2.2.2.2 _ hcode)) hinst (fun r0 r cB _ h2 h3 h4 => dv_sel (cx.2.2.2.2 _ hsel) r0 r cB h2 h3 h4) hy h9 hr hA hR.2 hsz hst hd kk
/-- an inherited plain method -/
theorem dv_cU {av : List Value} {a : Nat} {C : String} {x : MethodName} (cx : CallFix p m c cc nL s args lw_all own) (hK : dv_K g s) {index : Nat} (hM : dv_M l y (ws_ y bytes maxL ret) fr lc mc ms g (.ref a :: av) M P ks S) (hyx : y = ⟨y.cls, x.name, x.desc⟩)
    (hlink : Cond.methodLink own index x ∈ lw_all) (hsame : Cond.sameMethod x.cls y.cls x.name x.desc ∈ lw_all) (hinst : Cond.instanceMethod y ∈ lw_all) (hsel : Cond.selects C x y ∈ lw_all) (hini : Cond.initialized y.cls ∈ lw_all) (hcode : Cond.code y bytes maxL ret ∈ lw_all) (hy : y.cls ≠ "java/lang/invoke/MethodHandle" ∧ y.cls ≠ "java/lang/invoke/VarHandle" ∧ (parseMethodDescriptor x.desc).map (fun d => d.parameters.length) = some n9) (h9 : av.length = n9)
    (hr : dv_rc s h a C) (hA : dv_A g R s h k n mc ms M P) (hR : dv_R R fr lc maxL mr rest) (hsz : ls.length = nL) (hst : st = av.reverse ++ .ref a :: rest) (hd : decode cc pc = .ok (.invokevirtual index, 3))
    (kk : ∀ (v : Option Value) (h1 : dv_H), S v h h1 → dv_fr (dv_lo g) ks h h1 → dv_V (dv_lo g) p l e R s m args below meth c h1 (k + mc) (n + ms) Q (dv_G lk mr m (pc + 3) ls (v.toList ++ rest))) :
    dv_V (dv_lo g) p l e R s m args below meth c h k n Q (dv_G lk mr m pc ls st) :=
  dv_up0 (C := C) (owner := y.cls) (x := x) (y := y) cx hK (dv_back cx.2.2.2.2 hM hcode hini hR.1) hlink hsame (by rw [← hyx]; exact va_Decl.of (cx.2.2.2.2 _ hinst) (cx.2.2.2.2 _ hcode)) hinst (fun r0 r cB _ h2 h3 h4 => dv_sel (cx.2.2.2.2 _ hsel) r0 r cB h2 h3 h4) hy h9 hr hA hR.2 hsz hst hd kk
/-- an overriding plain method: the call names Object's -/
theorem dv_cO {av : List Value} {a : Nat} {C : String} {x : MethodName} (cx : CallFix p m c cc nL s args lw_all own) (hK : dv_K g s) {index : Nat} (hM : dv_M l y (ws_ y bytes maxL ret) fr lc mc ms g (.ref a :: av) M P ks S) (hx0 : va_Nw (.declares x) s)
    (hlink : Cond.methodLink own index x ∈ lw_all) (hsame : Cond.sameMethod x.cls x.cls x.name x.desc ∈ lw_all) (hinst : Cond.instanceMethod y ∈ lw_all) (hsel : Cond.selects C x y ∈ lw_all) (hini : Cond.initialized y.cls ∈ lw_all) (hcode : Cond.code y bytes maxL ret ∈ lw_all) (hy : x.cls ≠ "java/lang/invoke/MethodHandle" ∧ x.cls ≠ "java/lang/invoke/VarHandle" ∧ (parseMethodDescriptor x.desc).map (fun d => d.parameters.length) = some n9) (h9 : av.length = n9)
    (hr : dv_rc s h a C) (hA : dv_A g R s h k n mc ms M P) (hR : dv_R R fr lc maxL mr rest) (hsz : ls.length = nL) (hst : st = av.reverse ++ .ref a :: rest) (hd : decode cc pc = .ok (.invokevirtual index, 3))
    (kk : ∀ (v : Option Value) (h1 : dv_H), S v h h1 → dv_fr (dv_lo g) ks h h1 → dv_V (dv_lo g) p l e R s m args below meth c h1 (k + mc) (n + ms) Q (dv_G lk mr m (pc + 3) ls (v.toList ++ rest))) :
    dv_V (dv_lo g) p l e R s m args below meth c h k n Q (dv_G lk mr m pc ls st) :=
  dv_up0 (C := C) (owner := x.cls) (x := x) (y := y) cx hK (dv_back cx.2.2.2.2 hM hcode hini hR.1) hlink hsame (va_Decl.abs hx0) hinst (fun r0 r cB _ h2 h3 h4 => dv_sel (cx.2.2.2.2 _ hsel) r0 r cB h2 h3 h4) hy h9 hr hA hR.2 hsz hst hd kk
/-- a private plain method of a superclass -/
theorem dv_cP {av : List Value} {a : Nat} {C : String} (cx : CallFix p m c cc nL s args lw_all own) (hK : dv_K g s) {index : Nat} (hM : dv_M l y (ws_ y bytes maxL ret) fr lc mc ms g (.ref a :: av) M P ks S) (hpv : dv_pv y s) {n0 : Nat} (hinsn : Cond.instantiable y.cls n0 ∈ lw_all)
    (hlink : Cond.methodLink own index y ∈ lw_all) (hsame : Cond.sameMethod y.cls y.cls y.name y.desc ∈ lw_all) (hinst : Cond.instanceMethod y ∈ lw_all) (hini : Cond.initialized y.cls ∈ lw_all) (hcode : Cond.code y bytes maxL ret ∈ lw_all) (hy : y.cls ≠ "java/lang/invoke/MethodHandle" ∧ y.cls ≠ "java/lang/invoke/VarHandle" ∧ (parseMethodDescriptor y.desc).map (fun d => d.parameters.length) = some n9) (h9 : av.length = n9)
    (hr : dv_rc s h a C) (hA : dv_A g R s h k n mc ms M P) (hR : dv_R R fr lc maxL mr rest) (hsz : ls.length = nL) (hst : st = av.reverse ++ .ref a :: rest) (hd : decode cc pc = .ok (.invokevirtual index, 3))
    (kk : ∀ (v : Option Value) (h1 : dv_H), S v h h1 → dv_fr (dv_lo g) ks h h1 → dv_V (dv_lo g) p l e R s m args below meth c h1 (k + mc) (n + ms) Q (dv_G lk mr m (pc + 3) ls (v.toList ++ rest))) :
    dv_V (dv_lo g) p l e R s m args below meth c h k n Q (dv_G lk mr m pc ls st) := by
  refine dv_up0 (C := C) (owner := y.cls) (x := y) (y := y) cx hK (dv_back cx.2.2.2.2 hM hcode hini hR.1) hlink hsame (va_Decl.of (cx.2.2.2.2 _ hinst) (cx.2.2.2.2 _ hcode)) hinst (fun r0 r cB h1 h2 h3 h4 => ?_) hy h9 hr hA hR.2 hsz hst hd kk
  obtain ⟨mk0, mt, z1, z2, z3⟩ := hpv
  have e1 : s.methodNamed? y = some r0 := h1
  have e2 : r0 = mk0 := Option.some.inj (e1.symm.trans z1)
  have e3 : r = mk0 := Option.some.inj (h2.symm.trans z1)
  rw [e2, e3]
  refine ⟨selectMethod_private z2 z3, ?_⟩
  obtain ⟨c0, k0, hc0, hk0, -, hniab, -, -⟩ := Cond.instantiable_spec (cx.2.2.2.2 _ hinsn)
  have hcls : mk0.cls = c0 := Option.some.inj ((findClass_of_methodNamed z1).symm.trans hc0)
  exact ⟨k0, by rw [hcls]; exact hk0, (Bool.or_eq_false_iff.mp hniab).1⟩
/-- a call through the interface Enumeration, on an Enumerator -/
theorem dv_cF {av : List Value} {a : Nat} {C : String} {x : MethodName} {cC : ClassId} (hat : ClassAt s C cC) (cx : CallFix p m c cc nL s args lw_all own) (hK : dv_K g s) {index count : Nat} (hM : dv_M l y (ws_ y bytes maxL ret) fr lc mc ms g (.ref a :: av) M P ks S) (hF : va_Fw C x y s)
    (hlink : Cond.methodLink own index x ∈ lw_all) (hinst : Cond.instanceMethod y ∈ lw_all) (hsel : Cond.selects C x y ∈ lw_all) (hini : Cond.initialized y.cls ∈ lw_all) (hcode : Cond.code y bytes maxL ret ∈ lw_all) (hy : x.cls ≠ "java/lang/invoke/MethodHandle" ∧ x.cls ≠ "java/lang/invoke/VarHandle" ∧ (parseMethodDescriptor x.desc).map (fun d => d.parameters.length) = some n9) (h9 : av.length = n9)
    (hr : dv_rc s h a C) (hA : dv_A g R s h k n mc ms M P) (hR : dv_R R fr lc maxL mr rest) (hsz : ls.length = nL) (hst : st = av.reverse ++ .ref a :: rest) (hd : decode cc pc = .ok (.invokeinterface index count, 5))
    (kk : ∀ (v : Option Value) (h1 : dv_H), S v h h1 → dv_fr (dv_lo g) ks h h1 → dv_V (dv_lo g) p l e R s m args below meth c h1 (k + mc) (n + ms) Q (dv_G lk mr m (pc + 5) ls (v.toList ++ rest))) :
    dv_V (dv_lo g) p l e R s m args below meth c h k n Q (dv_G lk mr m pc ls st) := by
  obtain ⟨hx, hb, hml, hown, hts⟩ := cx
  refine dv_core (avs := .ref a :: av) (len := 5) hK hA (fun T locs X hT hpre => ?_) kk
  obtain ⟨cell, r1, r2, r3⟩ := dv_rcell hT hr
  obtain ⟨hfc, kB, hkB, -⟩ := hat
  cases hfc.symm.trans r3
  exact va_callIF X hx (C := C) (bytes := bytes) (maxL := maxL) (ret := ret) hown (hts _ hlink) (va_any rfl hF.1) (va_any rfl hF.2.1) (hts _ hsel) (hts _ hinst) (va_any rfl hF.2.2.1) (va_any rfl hF.2.2.2.1) (va_any rfl hF.2.2.2.2) (hts _ hcode) ⟨hy.1, hy.2.1⟩ (dv_back hts hM hcode hini hR.1) r1 r2 r3 hkB (g := dv_G lk mr m pc ls st) rfl (by rw [hml]; exact dv_sz hsz) (argsL := av) (rest := rest) (dv_len (h9 ▸ hy.2.2)) hst hR.2 (by rw [hb]; exact hd) hpre
end DVC
end
section
/-! ===== a row a field (by gen_fields.py): gf_<word> reads, pf_<word> writes ===== -/
set_option maxRecDepth 100000
section DVF
variable {g : dv_P} {p : Program} {l : Launch} {e : Env} {R : Room} {s : State} {m : MethodId} {args : Array Value} {below : List Frame} {meth : Method} {c : Code} {h : dv_H} {k n : Nat} {Q : State → Prop}
variable {lk : Option Addr} {mr : Nat} {pc nL : Nat} {ls : List Slot} {st : List Value} {cc : ByteArray}
/-- java/util/Vector.elementData, in java/util/Vector -/
theorem gf_56 (cx : CallFix p m c cc nL s args lw_all "java/util/Vector") (hK : dv_K g s) {a : Nat} {f0 f1 f2 f3 : Value} (ho : dv_ob g h a 1 4 [f0, f1, f2, f3]) (hd : decode cc pc = .ok (.getfield 30, 3)) (kk : dv_V (dv_lo g) p l e R s m args below meth c h k n Q (dv_G lk mr m (pc + 3) ls (f0 :: st))) : dv_V (dv_lo g) p l e R s m args below meth c h k n Q (dv_G lk mr m pc ls (.ref a :: st)) := dv_get cx hK in_J3 rfl ho 0 (by decide) q56 (fun _ z => z) rfl hd kk
theorem pf_56 (cx : CallFix p m c cc nL s args lw_all "java/util/Vector") (hK : dv_K g s) {a : Nat} {f0 f1 f2 f3 : Value} (ho : dv_ob g h a 1 4 [f0, f1, f2, f3]) (hlo : dv_lo g ≤ a) {v : Value} (hn : narrow (tyJ3 0) v = v) (hf : fits (tyJ3 0) v = true) (hd : decode cc pc = .ok (.putfield 30, 3)) (kk : ∀ h1, dv_ob g h1 a 1 4 [v, f1, f2, f3] → dv_st a h h1 → dv_V (dv_lo g) p l e R s m args below meth c h1 k n Q (dv_G lk mr m (pc + 3) ls st)) : dv_V (dv_lo g) p l e R s m args below meth c h k n Q (dv_G lk mr m pc ls (v :: .ref a :: st)) := dv_put cx hK in_J3 rfl tyJ3 tyJ3_ok nmJ3 ho hlo 0 (by decide) q56 (fun _ z => z) rfl hn hf (show 0 < 4 by decide) hd kk
/-- java/util/Vector.elementCount, in java/util/Vector -/
theorem gf_57 (cx : CallFix p m c cc nL s args lw_all "java/util/Vector") (hK : dv_K g s) {a : Nat} {f0 f1 f2 f3 : Value} (ho : dv_ob g h a 1 4 [f0, f1, f2, f3]) (hd : decode cc pc = .ok (.getfield 52, 3)) (kk : dv_V (dv_lo g) p l e R s m args below meth c h k n Q (dv_G lk mr m (pc + 3) ls (f1 :: st))) : dv_V (dv_lo g) p l e R s m args below meth c h k n Q (dv_G lk mr m pc ls (.ref a :: st)) := dv_get cx hK in_J3 rfl ho 1 (by decide) q57 (fun _ z => z) rfl hd kk
theorem pf_57 (cx : CallFix p m c cc nL s args lw_all "java/util/Vector") (hK : dv_K g s) {a : Nat} {f0 f1 f2 f3 : Value} (ho : dv_ob g h a 1 4 [f0, f1, f2, f3]) (hlo : dv_lo g ≤ a) {v : Value} (hn : narrow (tyJ3 1) v = v) (hf : fits (tyJ3 1) v = true) (hd : decode cc pc = .ok (.putfield 52, 3)) (kk : ∀ h1, dv_ob g h1 a 1 4 [f0, v, f2, f3] → dv_st a h h1 → dv_V (dv_lo g) p l e R s m args below meth c h1 k n Q (dv_G lk mr m (pc + 3) ls st)) : dv_V (dv_lo g) p l e R s m args below meth c h k n Q (dv_G lk mr m pc ls (v :: .ref a :: st)) := dv_put cx hK in_J3 rfl tyJ3 tyJ3_ok nmJ3 ho hlo 1 (by decide) q57 (fun _ z => z) rfl hn hf (show 1 < 4 by decide) hd kk
/-- java/util/Vector.capacityIncrement, in java/util/Vector -/
theorem gf_58 (cx : CallFix p m c cc nL s args lw_all "java/util/Vector") (hK : dv_K g s) {a : Nat} {f0 f1 f2 f3 : Value} (ho : dv_ob g h a 1 4 [f0, f1, f2, f3]) (hd : decode cc pc = .ok (.getfield 36, 3)) (kk : dv_V (dv_lo g) p l e R s m args below meth c h k n Q (dv_G lk mr m (pc + 3) ls (f2 :: st))) : dv_V (dv_lo g) p l e R s m args below meth c h k n Q (dv_G lk mr m pc ls (.ref a :: st)) := dv_get cx hK in_J3 rfl ho 2 (by decide) q58 (fun _ z => z) rfl hd kk
theorem pf_58 (cx : CallFix p m c cc nL s args lw_all "java/util/Vector") (hK : dv_K g s) {a : Nat} {f0 f1 f2 f3 : Value} (ho : dv_ob g h a 1 4 [f0, f1, f2, f3]) (hlo : dv_lo g ≤ a) {v : Value} (hn : narrow (tyJ3 2) v = v) (hf : fits (tyJ3 2) v = true) (hd : decode cc pc = .ok (.putfield 36, 3)) (kk : ∀ h1, dv_ob g h1 a 1 4 [f0, f1, v, f3] → dv_st a h h1 → dv_V (dv_lo g) p l e R s m args below meth c h1 k n Q (dv_G lk mr m (pc + 3) ls st)) : dv_V (dv_lo g) p l e R s m args below meth c h k n Q (dv_G lk mr m pc ls (v :: .ref a :: st)) := dv_put cx hK in_J3 rfl tyJ3 tyJ3_ok nmJ3 ho hlo 2 (by decide) q58 (fun _ z => z) rfl hn hf (show 2 < 4 by decide) hd kk
/-- java/util/AbstractList.modCount, in java/util/AbstractList -/
theorem gf_59 (cx : CallFix p m c cc nL s args lw_all "java/util/AbstractList") (hK : dv_K g s) {a : Nat} {f0 f1 f2 f3 : Value} (ho : dv_ob g h a 1 4 [f0, f1, f2, f3]) (hd : decode cc pc = .ok (.getfield 7, 3)) (kk : dv_V (dv_lo g) p l e R s m args below meth c h k n Q (dv_G lk mr m (pc + 3) ls (f3 :: st))) : dv_V (dv_lo g) p l e R s m args below meth c h k n Q (dv_G lk mr m pc ls (.ref a :: st)) := dv_get cx hK in_J3 rfl ho 3 (by decide) q59 (fun _ z => z) rfl hd kk
theorem pf_59 (cx : CallFix p m c cc nL s args lw_all "java/util/AbstractList") (hK : dv_K g s) {a : Nat} {f0 f1 f2 f3 : Value} (ho : dv_ob g h a 1 4 [f0, f1, f2, f3]) (hlo : dv_lo g ≤ a) {v : Value} (hn : narrow (tyJ3 3) v = v) (hf : fits (tyJ3 3) v = true) (hd : decode cc pc = .ok (.putfield 7, 3)) (kk : ∀ h1, dv_ob g h1 a 1 4 [f0, f1, f2, v] → dv_st a h h1 → dv_V (dv_lo g) p l e R s m args below meth c h1 k n Q (dv_G lk mr m (pc + 3) ls st)) : dv_V (dv_lo g) p l e R s m args below meth c h k n Q (dv_G lk mr m pc ls (v :: .ref a :: st)) := dv_put cx hK in_J3 rfl tyJ3 tyJ3_ok nmJ3 ho hlo 3 (by decide) q59 (fun _ z => z) rfl hn hf (show 3 < 4 by decide) hd kk
/-- java/util/Vector.modCount, in java/util/Vector -/
theorem gf_60 (cx : CallFix p m c cc nL s args lw_all "java/util/Vector") (hK : dv_K g s) {a : Nat} {f0 f1 f2 f3 : Value} (ho : dv_ob g h a 1 4 [f0, f1, f2, f3]) (hd : decode cc pc = .ok (.getfield 74, 3)) (kk : dv_V (dv_lo g) p l e R s m args below meth c h k n Q (dv_G lk mr m (pc + 3) ls (f3 :: st))) : dv_V (dv_lo g) p l e R s m args below meth c h k n Q (dv_G lk mr m pc ls (.ref a :: st)) := dv_get cx hK in_J3 rfl ho 3 (by decide) q60 (fun x z => u_same (cx.2.2.2.2 _ q61) x z) rfl hd kk
theorem pf_60 (cx : CallFix p m c cc nL s args lw_all "java/util/Vector") (hK : dv_K g s) {a : Nat} {f0 f1 f2 f3 : Value} (ho : dv_ob g h a 1 4 [f0, f1, f2, f3]) (hlo : dv_lo g ≤ a) {v : Value} (hn : narrow (tyJ3 3) v = v) (hf : fits (tyJ3 3) v = true) (hd : decode cc pc = .ok (.putfield 74, 3)) (kk : ∀ h1, dv_ob g h1 a 1 4 [f0, f1, f2, v] → dv_st a h h1 → dv_V (dv_lo g) p l e R s m args below meth c h1 k n Q (dv_G lk mr m (pc + 3) ls st)) : dv_V (dv_lo g) p l e R s m args below meth c h k n Q (dv_G lk mr m pc ls (v :: .ref a :: st)) := dv_put cx hK in_J3 rfl tyJ3 tyJ3_ok nmJ3 ho hlo 3 (by decide) q60 (fun x z => u_same (cx.2.2.2.2 _ q61) x z) rfl hn hf (show 3 < 4 by decide) hd kk
/-- java/util/Hashtable.table, in java/util/Hashtable$Enumerator -/
theorem gf_98 (cx : CallFix p m c cc nL s args lw_all "java/util/Hashtable$Enumerator") (hK : dv_K g s) {a : Nat} {f0 f1 f2 f3 f4 f5 f6 f7 : Value} (ho : dv_ob g h a 2 8 [f0, f1, f2, f3, f4, f5, f6, f7]) (hd : decode cc pc = .ok (.getfield 15, 3)) (kk : dv_V (dv_lo g) p l e R s m args below meth c h k n Q (dv_G lk mr m (pc + 3) ls (f0 :: st))) : dv_V (dv_lo g) p l e R s m args below meth c h k n Q (dv_G lk mr m pc ls (.ref a :: st)) := dv_getN cx hK in_J5 rfl ho 0 (by decide) hK.2.2.1.2.2.2.2.1 (fun _ z => z) rfl hd kk
/-- java/util/Hashtable.table, in java/util/Hashtable -/
theorem gf_99 (cx : CallFix p m c cc nL s args lw_all "java/util/Hashtable") (hK : dv_K g s) {a : Nat} {f0 f1 f2 f3 f4 f5 f6 f7 : Value} (ho : dv_ob g h a 2 8 [f0, f1, f2, f3, f4, f5, f6, f7]) (hd : decode cc pc = .ok (.getfield 53, 3)) (kk : dv_V (dv_lo g) p l e R s m args below meth c h k n Q (dv_G lk mr m (pc + 3) ls (f0 :: st))) : dv_V (dv_lo g) p l e R s m args below meth c h k n Q (dv_G lk mr m pc ls (.ref a :: st)) := dv_get cx hK in_J5 rfl ho 0 (by decide) q99 (fun _ z => z) rfl hd kk
theorem pf_99 (cx : CallFix p m c cc nL s args lw_all "java/util/Hashtable") (hK : dv_K g s) {a : Nat} {f0 f1 f2 f3 f4 f5 f6 f7 : Value} (ho : dv_ob g h a 2 8 [f0, f1, f2, f3, f4, f5, f6, f7]) (hlo : dv_lo g ≤ a) {v : Value} (hn : narrow (tyJ5 0) v = v) (hf : fits (tyJ5 0) v = true) (hd : decode cc pc = .ok (.putfield 53, 3)) (kk : ∀ h1, dv_ob g h1 a 2 8 [v, f1, f2, f3, f4, f5, f6, f7] → dv_st a h h1 → dv_V (dv_lo g) p l e R s m args below meth c h1 k n Q (dv_G lk mr m (pc + 3) ls st)) : dv_V (dv_lo g) p l e R s m args below meth c h k n Q (dv_G lk mr m pc ls (v :: .ref a :: st)) := dv_put cx hK in_J5 rfl tyJ5 tyJ5_ok nmJ5 ho hlo 0 (by decide) q99 (fun _ z => z) rfl hn hf (show 0 < 8 by decide) hd kk
/-- java/util/Hashtable.count, in java/util/Hashtable -/
theorem gf_100 (cx : CallFix p m c cc nL s args lw_all "java/util/Hashtable") (hK : dv_K g s) {a : Nat} {f0 f1 f2 f3 f4 f5 f6 f7 : Value} (ho : dv_ob g h a 2 8 [f0, f1, f2, f3, f4, f5, f6, f7]) (hd : decode cc pc = .ok (.getfield 85, 3)) (kk : dv_V (dv_lo g) p l e R s m args below meth c h k n Q (dv_G lk mr m (pc + 3) ls (f1 :: st))) : dv_V (dv_lo g) p l e R s m args below meth c h k n Q (dv_G lk mr m pc ls (.ref a :: st)) := dv_get cx hK in_J5 rfl ho 1 (by decide) q100 (fun _ z => z) rfl hd kk
theorem pf_100 (cx : CallFix p m c cc nL s args lw_all "java/util/Hashtable") (hK : dv_K g s) {a : Nat} {f0 f1 f2 f3 f4 f5 f6 f7 : Value} (ho : dv_ob g h a 2 8 [f0, f1, f2, f3, f4, f5, f6, f7]) (hlo : dv_lo g ≤ a) {v : Value} (hn : narrow (tyJ5 1) v = v) (hf : fits (tyJ5 1) v = true) (hd : decode cc pc = .ok (.putfield 85, 3)) (kk : ∀ h1, dv_ob g h1 a 2 8 [f0, v, f2, f3, f4, f5, f6, f7] → dv_st a h h1 → dv_V (dv_lo g) p l e R s m args below meth c h1 k n Q (dv_G lk mr m (pc + 3) ls st)) : dv_V (dv_lo g) p l e R s m args below meth c h k n Q (dv_G lk mr m pc ls (v :: .ref a :: st)) := dv_put cx hK in_J5 rfl tyJ5 tyJ5_ok nmJ5 ho hlo 1 (by decide) q100 (fun _ z => z) rfl hn hf (show 1 < 8 by decide) hd kk
/-- java/util/Hashtable.threshold, in java/util/Hashtable -/
theorem gf_101 (cx : CallFix p m c cc nL s args lw_all "java/util/Hashtable") (hK : dv_K g s) {a : Nat} {f0 f1 f2 f3 f4 f5 f6 f7 : Value} (ho : dv_ob g h a 2 8 [f0, f1, f2, f3, f4, f5, f6, f7]) (hd : decode cc pc = .ok (.getfield 64, 3)) (kk : dv_V (dv_lo g) p l e R s m args below meth c h k n Q (dv_G lk mr m (pc + 3) ls (f2 :: st))) : dv_V (dv_lo g) p l e R s m args below meth c h k n Q (dv_G lk mr m pc ls (.ref a :: st)) := dv_get cx hK in_J5 rfl ho 2 (by decide) q101 (fun _ z => z) rfl hd kk
theorem pf_101 (cx : CallFix p m c cc nL s args lw_all "java/util/Hashtable") (hK : dv_K g s) {a : Nat} {f0 f1 f2 f3 f4 f5 f6 f7 : Value} (ho : dv_ob g h a 2 8 [f0, f1, f2, f3, f4, f5, f6, f7]) (hlo : dv_lo g ≤ a) {v : Value} (hn : narrow (tyJ5 2) v = v) (hf : fits (tyJ5 2) v = true) (hd : decode cc pc = .ok (.putfield 64, 3)) (kk : ∀ h1, dv_ob g h1 a 2 8 [f0, f1, v, f3, f4, f5, f6, f7] → dv_st a h h1 → dv_V (dv_lo g) p l e R s m args below meth c h1 k n Q (dv_G lk mr m (pc + 3) ls st)) : dv_V (dv_lo g) p l e R s m args below meth c h k n Q (dv_G lk mr m pc ls (v :: .ref a :: st)) := dv_put cx hK in_J5 rfl tyJ5 tyJ5_ok nmJ5 ho hlo 2 (by decide) q101 (fun _ z => z) rfl hn hf (show 2 < 8 by decide) hd kk
/-- java/util/Hashtable.loadFactor, in java/util/Hashtable -/
theorem gf_102 (cx : CallFix p m c cc nL s args lw_all "java/util/Hashtable") (hK : dv_K g s) {a : Nat} {f0 f1 f2 f3 f4 f5 f6 f7 : Value} (ho : dv_ob g h a 2 8 [f0, f1, f2, f3, f4, f5, f6, f7]) (hd : decode cc pc = .ok (.getfield 47, 3)) (kk : dv_V (dv_lo g) p l e R s m args below meth c h k n Q (dv_G lk mr m (pc + 3) ls (f3 :: st))) : dv_V (dv_lo g) p l e R s m args below meth c h k n Q (dv_G lk mr m pc ls (.ref a :: st)) := dv_get cx hK in_J5 rfl ho 3 (by decide) q102 (fun _ z => z) rfl hd kk
theorem pf_102 (cx : CallFix p m c cc nL s args lw_all "java/util/Hashtable") (hK : dv_K g s) {a : Nat} {f0 f1 f2 f3 f4 f5 f6 f7 : Value} (ho : dv_ob g h a 2 8 [f0, f1, f2, f3, f4, f5, f6, f7]) (hlo : dv_lo g ≤ a) {v : Value} (hn : narrow (tyJ5 3) v = v) (hf : fits (tyJ5 3) v = true) (hd : decode cc pc = .ok (.putfield 47, 3)) (kk : ∀ h1, dv_ob g h1 a 2 8 [f0, f1, f2, v, f4, f5, f6, f7] → dv_st a h h1 → dv_V (dv_lo g) p l e R s m args below meth c h1 k n Q (dv_G lk mr m (pc + 3) ls st)) : dv_V (dv_lo g) p l e R s m args below meth c h k n Q (dv_G lk mr m pc ls (v :: .ref a :: st)) := dv_put cx hK in_J5 rfl tyJ5 tyJ5_ok nmJ5 ho hlo 3 (by decide) q102 (fun _ z => z) rfl hn hf (show 3 < 8 by decide) hd kk
/-- java/util/Hashtable.modCount, in java/util/Hashtable -/
theorem gf_103 (cx : CallFix p m c cc nL s args lw_all "java/util/Hashtable") (hK : dv_K g s) {a : Nat} {f0 f1 f2 f3 f4 f5 f6 f7 : Value} (ho : dv_ob g h a 2 8 [f0, f1, f2, f3, f4, f5, f6, f7]) (hd : decode cc pc = .ok (.getfield 9, 3)) (kk : dv_V (dv_lo g) p l e R s m args below meth c h k n Q (dv_G lk mr m (pc + 3) ls (f4 :: st))) : dv_V (dv_lo g) p l e R s m args below meth c h k n Q (dv_G lk mr m pc ls (.ref a :: st)) := dv_get cx hK in_J5 rfl ho 4 (by decide) q103 (fun _ z => z) rfl hd kk
theorem pf_103 (cx : CallFix p m c cc nL s args lw_all "java/util/Hashtable") (hK : dv_K g s) {a : Nat} {f0 f1 f2 f3 f4 f5 f6 f7 : Value} (ho : dv_ob g h a 2 8 [f0, f1, f2, f3, f4, f5, f6, f7]) (hlo : dv_lo g ≤ a) {v : Value} (hn : narrow (tyJ5 4) v = v) (hf : fits (tyJ5 4) v = true) (hd : decode cc pc = .ok (.putfield 9, 3)) (kk : ∀ h1, dv_ob g h1 a 2 8 [f0, f1, f2, f3, v, f5, f6, f7] → dv_st a h h1 → dv_V (dv_lo g) p l e R s m args below meth c h1 k n Q (dv_G lk mr m (pc + 3) ls st)) : dv_V (dv_lo g) p l e R s m args below meth c h k n Q (dv_G lk mr m pc ls (v :: .ref a :: st)) := dv_put cx hK in_J5 rfl tyJ5 tyJ5_ok nmJ5 ho hlo 4 (by decide) q103 (fun _ z => z) rfl hn hf (show 4 < 8 by decide) hd kk
/-- java/util/Hashtable.modCount, in java/util/Hashtable$Enumerator -/
theorem gf_104 (cx : CallFix p m c cc nL s args lw_all "java/util/Hashtable$Enumerator") (hK : dv_K g s) {a : Nat} {f0 f1 f2 f3 f4 f5 f6 f7 : Value} (ho : dv_ob g h a 2 8 [f0, f1, f2, f3, f4, f5, f6, f7]) (hd : decode cc pc = .ok (.getfield 24, 3)) (kk : dv_V (dv_lo g) p l e R s m args below meth c h k n Q (dv_G lk mr m (pc + 3) ls (f4 :: st))) : dv_V (dv_lo g) p l e R s m args below meth c h k n Q (dv_G lk mr m pc ls (.ref a :: st)) := dv_getN cx hK in_J5 rfl ho 4 (by decide) hK.2.2.1.2.2.2.2.2.1 (fun _ z => z) rfl hd kk
/-- LegacyDrill.pile, in LegacyDrill -/
theorem gf_122 (cx : CallFix p m c cc nL s args lw_all "LegacyDrill") (hK : dv_K g s) {a : Nat} {f0 f1 : Value} (ho : dv_ob g h a 0 2 [f0, f1]) (hd : decode cc pc = .ok (.getfield 10, 3)) (kk : dv_V (dv_lo g) p l e R s m args below meth c h k n Q (dv_G lk mr m (pc + 3) ls (f0 :: st))) : dv_V (dv_lo g) p l e R s m args below meth c h k n Q (dv_G lk mr m pc ls (.ref a :: st)) := dv_get cx hK in_X0 rfl ho 0 (by decide) q122 (fun _ z => z) rfl hd kk
theorem pf_122 (cx : CallFix p m c cc nL s args lw_all "LegacyDrill") (hK : dv_K g s) {a : Nat} {f0 f1 : Value} (ho : dv_ob g h a 0 2 [f0, f1]) (hlo : dv_lo g ≤ a) (hi : meth.name = "<init>") {v : Value} (hn : narrow (tyX0 0) v = v) (hf : fits (tyX0 0) v = true) (hd : decode cc pc = .ok (.putfield 10, 3)) (kk : ∀ h1, dv_ob g h1 a 0 2 [v, f1] → dv_st a h h1 → dv_V (dv_lo g) p l e R s m args below meth c h1 k n Q (dv_G lk mr m (pc + 3) ls st)) : dv_V (dv_lo g) p l e R s m args below meth c h k n Q (dv_G lk mr m pc ls (v :: .ref a :: st)) := dv_putF cx hK in_X0 rfl tyX0 tyX0_ok nmX0 ho hlo 0 (by decide) q122 (fun _ z => z) rfl hi rfl hn hf (show 0 < 2 by decide) hd kk
/-- LegacyDrill.table, in LegacyDrill -/
theorem gf_123 (cx : CallFix p m c cc nL s args lw_all "LegacyDrill") (hK : dv_K g s) {a : Nat} {f0 f1 : Value} (ho : dv_ob g h a 0 2 [f0, f1]) (hd : decode cc pc = .ok (.getfield 19, 3)) (kk : dv_V (dv_lo g) p l e R s m args below meth c h k n Q (dv_G lk mr m (pc + 3) ls (f1 :: st))) : dv_V (dv_lo g) p l e R s m args below meth c h k n Q (dv_G lk mr m pc ls (.ref a :: st)) := dv_get cx hK in_X0 rfl ho 1 (by decide) q123 (fun _ z => z) rfl hd kk
theorem pf_123 (cx : CallFix p m c cc nL s args lw_all "LegacyDrill") (hK : dv_K g s) {a : Nat} {f0 f1 : Value} (ho : dv_ob g h a 0 2 [f0, f1]) (hlo : dv_lo g ≤ a) (hi : meth.name = "<init>") {v : Value} (hn : narrow (tyX0 1) v = v) (hf : fits (tyX0 1) v = true) (hd : decode cc pc = .ok (.putfield 19, 3)) (kk : ∀ h1, dv_ob g h1 a 0 2 [f0, v] → dv_st a h h1 → dv_V (dv_lo g) p l e R s m args below meth c h1 k n Q (dv_G lk mr m (pc + 3) ls st)) : dv_V (dv_lo g) p l e R s m args below meth c h k n Q (dv_G lk mr m pc ls (v :: .ref a :: st)) := dv_putF cx hK in_X0 rfl tyX0 tyX0_ok nmX0 ho hlo 1 (by decide) q123 (fun _ z => z) rfl hi rfl hn hf (show 1 < 2 by decide) hd kk
/-- java/lang/Integer.value, in java/lang/Integer -/
theorem gf_149 (cx : CallFix p m c cc nL s args lw_all "java/lang/Integer") (hK : dv_K g s) {a : Nat} {f0 : Value} (ho : dv_ob g h a 5 1 [f0]) (hd : decode cc pc = .ok (.getfield 205, 3)) (kk : dv_V (dv_lo g) p l e R s m args below meth c h k n Q (dv_G lk mr m (pc + 3) ls (f0 :: st))) : dv_V (dv_lo g) p l e R s m args below meth c h k n Q (dv_G lk mr m pc ls (.ref a :: st)) := dv_get cx hK in_J9 rfl ho 0 (by decide) q149 (fun _ z => z) rfl hd kk
theorem pf_149 (cx : CallFix p m c cc nL s args lw_all "java/lang/Integer") (hK : dv_K g s) {a : Nat} {f0 : Value} (ho : dv_ob g h a 5 1 [f0]) (hlo : dv_lo g ≤ a) (hi : meth.name = "<init>") {v : Value} (hn : narrow (tyJ9 0) v = v) (hf : fits (tyJ9 0) v = true) (hd : decode cc pc = .ok (.putfield 205, 3)) (kk : ∀ h1, dv_ob g h1 a 5 1 [v] → dv_st a h h1 → dv_V (dv_lo g) p l e R s m args below meth c h1 k n Q (dv_G lk mr m (pc + 3) ls st)) : dv_V (dv_lo g) p l e R s m args below meth c h k n Q (dv_G lk mr m pc ls (v :: .ref a :: st)) := dv_putF cx hK in_J9 rfl tyJ9 tyJ9_ok nmJ9 ho hlo 0 (by decide) q149 (fun _ z => z) rfl hi rfl hn hf (show 0 < 1 by decide) hd kk
/-- java/util/Hashtable$Entry.hash, in java/util/Hashtable$Entry -/
theorem gf_376 (cx : CallFix p m c cc nL s args lw_all "java/util/Hashtable$Entry") (hK : dv_K g s) {a : Nat} {f0 f1 f2 f3 : Value} (ho : dv_ob g h a 3 4 [f0, f1, f2, f3]) (hd : decode cc pc = .ok (.getfield 7, 3)) (kk : dv_V (dv_lo g) p l e R s m args below meth c h k n Q (dv_G lk mr m (pc + 3) ls (f0 :: st))) : dv_V (dv_lo g) p l e R s m args below meth c h k n Q (dv_G lk mr m pc ls (.ref a :: st)) := dv_get cx hK in_J12 rfl ho 0 (by decide) q376 (fun _ z => z) rfl hd kk
theorem pf_376 (cx : CallFix p m c cc nL s args lw_all "java/util/Hashtable$Entry") (hK : dv_K g s) {a : Nat} {f0 f1 f2 f3 : Value} (ho : dv_ob g h a 3 4 [f0, f1, f2, f3]) (hlo : dv_lo g ≤ a) (hi : meth.name = "<init>") {v : Value} (hn : narrow (tyJ12 0) v = v) (hf : fits (tyJ12 0) v = true) (hd : decode cc pc = .ok (.putfield 7, 3)) (kk : ∀ h1, dv_ob g h1 a 3 4 [v, f1, f2, f3] → dv_st a h h1 → dv_V (dv_lo g) p l e R s m args below meth c h1 k n Q (dv_G lk mr m (pc + 3) ls st)) : dv_V (dv_lo g) p l e R s m args below meth c h k n Q (dv_G lk mr m pc ls (v :: .ref a :: st)) := dv_putF cx hK in_J12 rfl tyJ12 tyJ12_ok nmJ12 ho hlo 0 (by decide) q376 (fun _ z => z) rfl hi rfl hn hf (show 0 < 4 by decide) hd kk
/-- java/util/Hashtable$Entry.hash, in java/util/Hashtable -/
theorem gf_377 (cx : CallFix p m c cc nL s args lw_all "java/util/Hashtable") (hK : dv_K g s) {a : Nat} {f0 f1 f2 f3 : Value} (ho : dv_ob g h a 3 4 [f0, f1, f2, f3]) (hd : decode cc pc = .ok (.getfield 116, 3)) (kk : dv_V (dv_lo g) p l e R s m args below meth c h k n Q (dv_G lk mr m (pc + 3) ls (f0 :: st))) : dv_V (dv_lo g) p l e R s m args below meth c h k n Q (dv_G lk mr m pc ls (.ref a :: st)) := dv_get cx hK in_J12 rfl ho 0 (by decide) q377 (fun _ z => z) rfl hd kk
/-- java/util/Hashtable$Entry.key, in java/util/Hashtable$Entry -/
theorem gf_378 (cx : CallFix p m c cc nL s args lw_all "java/util/Hashtable$Entry") (hK : dv_K g s) {a : Nat} {f0 f1 f2 f3 : Value} (ho : dv_ob g h a 3 4 [f0, f1, f2, f3]) (hd : decode cc pc = .ok (.getfield 13, 3)) (kk : dv_V (dv_lo g) p l e R s m args below meth c h k n Q (dv_G lk mr m (pc + 3) ls (f1 :: st))) : dv_V (dv_lo g) p l e R s m args below meth c h k n Q (dv_G lk mr m pc ls (.ref a :: st)) := dv_get cx hK in_J12 rfl ho 1 (by decide) q378 (fun _ z => z) rfl hd kk
theorem pf_378 (cx : CallFix p m c cc nL s args lw_all "java/util/Hashtable$Entry") (hK : dv_K g s) {a : Nat} {f0 f1 f2 f3 : Value} (ho : dv_ob g h a 3 4 [f0, f1, f2, f3]) (hlo : dv_lo g ≤ a) (hi : meth.name = "<init>") {v : Value} (hn : narrow (tyJ12 1) v = v) (hf : fits (tyJ12 1) v = true) (hd : decode cc pc = .ok (.putfield 13, 3)) (kk : ∀ h1, dv_ob g h1 a 3 4 [f0, v, f2, f3] → dv_st a h h1 → dv_V (dv_lo g) p l e R s m args below meth c h1 k n Q (dv_G lk mr m (pc + 3) ls st)) : dv_V (dv_lo g) p l e R s m args below meth c h k n Q (dv_G lk mr m pc ls (v :: .ref a :: st)) := dv_putF cx hK in_J12 rfl tyJ12 tyJ12_ok nmJ12 ho hlo 1 (by decide) q378 (fun _ z => z) rfl hi rfl hn hf (show 1 < 4 by decide) hd kk
/-- java/util/Hashtable$Entry.key, in java/util/Hashtable$Enumerator -/
theorem gf_379 (cx : CallFix p m c cc nL s args lw_all "java/util/Hashtable$Enumerator") (hK : dv_K g s) {a : Nat} {f0 f1 f2 f3 : Value} (ho : dv_ob g h a 3 4 [f0, f1, f2, f3]) (hd : decode cc pc = .ok (.getfield 49, 3)) (kk : dv_V (dv_lo g) p l e R s m args below meth c h k n Q (dv_G lk mr m (pc + 3) ls (f1 :: st))) : dv_V (dv_lo g) p l e R s m args below meth c h k n Q (dv_G lk mr m pc ls (.ref a :: st)) := dv_get cx hK in_J12 rfl ho 1 (by decide) q379 (fun _ z => z) rfl hd kk
/-- java/util/Hashtable$Entry.key, in java/util/Hashtable -/
theorem gf_380 (cx : CallFix p m c cc nL s args lw_all "java/util/Hashtable") (hK : dv_K g s) {a : Nat} {f0 f1 f2 f3 : Value} (ho : dv_ob g h a 3 4 [f0, f1, f2, f3]) (hd : decode cc pc = .ok (.getfield 119, 3)) (kk : dv_V (dv_lo g) p l e R s m args below meth c h k n Q (dv_G lk mr m (pc + 3) ls (f1 :: st))) : dv_V (dv_lo g) p l e R s m args below meth c h k n Q (dv_G lk mr m pc ls (.ref a :: st)) := dv_get cx hK in_J12 rfl ho 1 (by decide) q380 (fun _ z => z) rfl hd kk
/-- java/util/Hashtable$Entry.value, in java/util/Hashtable$Entry -/
theorem gf_381 (cx : CallFix p m c cc nL s args lw_all "java/util/Hashtable$Entry") (hK : dv_K g s) {a : Nat} {f0 f1 f2 f3 : Value} (ho : dv_ob g h a 3 4 [f0, f1, f2, f3]) (hd : decode cc pc = .ok (.getfield 17, 3)) (kk : dv_V (dv_lo g) p l e R s m args below meth c h k n Q (dv_G lk mr m (pc + 3) ls (f2 :: st))) : dv_V (dv_lo g) p l e R s m args below meth c h k n Q (dv_G lk mr m pc ls (.ref a :: st)) := dv_get cx hK in_J12 rfl ho 2 (by decide) q381 (fun _ z => z) rfl hd kk
theorem pf_381 (cx : CallFix p m c cc nL s args lw_all "java/util/Hashtable$Entry") (hK : dv_K g s) {a : Nat} {f0 f1 f2 f3 : Value} (ho : dv_ob g h a 3 4 [f0, f1, f2, f3]) (hlo : dv_lo g ≤ a) {v : Value} (hn : narrow (tyJ12 2) v = v) (hf : fits (tyJ12 2) v = true) (hd : decode cc pc = .ok (.putfield 17, 3)) (kk : ∀ h1, dv_ob g h1 a 3 4 [f0, f1, v, f3] → dv_st a h h1 → dv_V (dv_lo g) p l e R s m args below meth c h1 k n Q (dv_G lk mr m (pc + 3) ls st)) : dv_V (dv_lo g) p l e R s m args below meth c h k n Q (dv_G lk mr m pc ls (v :: .ref a :: st)) := dv_put cx hK in_J12 rfl tyJ12 tyJ12_ok nmJ12 ho hlo 2 (by decide) q381 (fun _ z => z) rfl hn hf (show 2 < 4 by decide) hd kk
/-- java/util/Hashtable$Entry.value, in java/util/Hashtable$Enumerator -/
theorem gf_382 (cx : CallFix p m c cc nL s args lw_all "java/util/Hashtable$Enumerator") (hK : dv_K g s) {a : Nat} {f0 f1 f2 f3 : Value} (ho : dv_ob g h a 3 4 [f0, f1, f2, f3]) (hd : decode cc pc = .ok (.getfield 53, 3)) (kk : dv_V (dv_lo g) p l e R s m args below meth c h k n Q (dv_G lk mr m (pc + 3) ls (f2 :: st))) : dv_V (dv_lo g) p l e R s m args below meth c h k n Q (dv_G lk mr m pc ls (.ref a :: st)) := dv_get cx hK in_J12 rfl ho 2 (by decide) q382 (fun _ z => z) rfl hd kk
theorem pf_382 (cx : CallFix p m c cc nL s args lw_all "java/util/Hashtable$Enumerator") (hK : dv_K g s) {a : Nat} {f0 f1 f2 f3 : Value} (ho : dv_ob g h a 3 4 [f0, f1, f2, f3]) (hlo : dv_lo g ≤ a) {v : Value} (hn : narrow (tyJ12 2) v = v) (hf : fits (tyJ12 2) v = true) (hd : decode cc pc = .ok (.putfield 53, 3)) (kk : ∀ h1, dv_ob g h1 a 3 4 [f0, f1, v, f3] → dv_st a h h1 → dv_V (dv_lo g) p l e R s m args below meth c h1 k n Q (dv_G lk mr m (pc + 3) ls st)) : dv_V (dv_lo g) p l e R s m args below meth c h k n Q (dv_G lk mr m pc ls (v :: .ref a :: st)) := dv_put cx hK in_J12 rfl tyJ12 tyJ12_ok nmJ12 ho hlo 2 (by decide) q382 (fun _ z => z) rfl hn hf (show 2 < 4 by decide) hd kk
/-- java/util/Hashtable$Entry.value, in java/util/Hashtable -/
theorem gf_383 (cx : CallFix p m c cc nL s args lw_all "java/util/Hashtable") (hK : dv_K g s) {a : Nat} {f0 f1 f2 f3 : Value} (ho : dv_ob g h a 3 4 [f0, f1, f2, f3]) (hd : decode cc pc = .ok (.getfield 95, 3)) (kk : dv_V (dv_lo g) p l e R s m args below meth c h k n Q (dv_G lk mr m (pc + 3) ls (f2 :: st))) : dv_V (dv_lo g) p l e R s m args below meth c h k n Q (dv_G lk mr m pc ls (.ref a :: st)) := dv_get cx hK in_J12 rfl ho 2 (by decide) q383 (fun _ z => z) rfl hd kk
theorem pf_383 (cx : CallFix p m c cc nL s args lw_all "java/util/Hashtable") (hK : dv_K g s) {a : Nat} {f0 f1 f2 f3 : Value} (ho : dv_ob g h a 3 4 [f0, f1, f2, f3]) (hlo : dv_lo g ≤ a) {v : Value} (hn : narrow (tyJ12 2) v = v) (hf : fits (tyJ12 2) v = true) (hd : decode cc pc = .ok (.putfield 95, 3)) (kk : ∀ h1, dv_ob g h1 a 3 4 [f0, f1, v, f3] → dv_st a h h1 → dv_V (dv_lo g) p l e R s m args below meth c h1 k n Q (dv_G lk mr m (pc + 3) ls st)) : dv_V (dv_lo g) p l e R s m args below meth c h k n Q (dv_G lk mr m pc ls (v :: .ref a :: st)) := dv_put cx hK in_J12 rfl tyJ12 tyJ12_ok nmJ12 ho hlo 2 (by decide) q383 (fun _ z => z) rfl hn hf (show 2 < 4 by decide) hd kk
/-- java/util/Hashtable$Entry.next, in java/util/Hashtable$Entry -/
theorem gf_384 (cx : CallFix p m c cc nL s args lw_all "java/util/Hashtable$Entry") (hK : dv_K g s) {a : Nat} {f0 f1 f2 f3 : Value} (ho : dv_ob g h a 3 4 [f0, f1, f2, f3]) (hd : decode cc pc = .ok (.getfield 20, 3)) (kk : dv_V (dv_lo g) p l e R s m args below meth c h k n Q (dv_G lk mr m (pc + 3) ls (f3 :: st))) : dv_V (dv_lo g) p l e R s m args below meth c h k n Q (dv_G lk mr m pc ls (.ref a :: st)) := dv_get cx hK in_J12 rfl ho 3 (by decide) q384 (fun _ z => z) rfl hd kk
theorem pf_384 (cx : CallFix p m c cc nL s args lw_all "java/util/Hashtable$Entry") (hK : dv_K g s) {a : Nat} {f0 f1 f2 f3 : Value} (ho : dv_ob g h a 3 4 [f0, f1, f2, f3]) (hlo : dv_lo g ≤ a) {v : Value} (hn : narrow (tyJ12 3) v = v) (hf : fits (tyJ12 3) v = true) (hd : decode cc pc = .ok (.putfield 20, 3)) (kk : ∀ h1, dv_ob g h1 a 3 4 [f0, f1, f2, v] → dv_st a h h1 → dv_V (dv_lo g) p l e R s m args below meth c h1 k n Q (dv_G lk mr m (pc + 3) ls st)) : dv_V (dv_lo g) p l e R s m args below meth c h k n Q (dv_G lk mr m pc ls (v :: .ref a :: st)) := dv_put cx hK in_J12 rfl tyJ12 tyJ12_ok nmJ12 ho hlo 3 (by decide) q384 (fun _ z => z) rfl hn hf (show 3 < 4 by decide) hd kk
/-- java/util/Hashtable$Entry.next, in java/util/Hashtable$Enumerator -/
theorem gf_385 (cx : CallFix p m c cc nL s args lw_all "java/util/Hashtable$Enumerator") (hK : dv_K g s) {a : Nat} {f0 f1 f2 f3 : Value} (ho : dv_ob g h a 3 4 [f0, f1, f2, f3]) (hd : decode cc pc = .ok (.getfield 44, 3)) (kk : dv_V (dv_lo g) p l e R s m args below meth c h k n Q (dv_G lk mr m (pc + 3) ls (f3 :: st))) : dv_V (dv_lo g) p l e R s m args below meth c h k n Q (dv_G lk mr m pc ls (.ref a :: st)) := dv_get cx hK in_J12 rfl ho 3 (by decide) q385 (fun _ z => z) rfl hd kk
theorem pf_385 (cx : CallFix p m c cc nL s args lw_all "java/util/Hashtable$Enumerator") (hK : dv_K g s) {a : Nat} {f0 f1 f2 f3 : Value} (ho : dv_ob g h a 3 4 [f0, f1, f2, f3]) (hlo : dv_lo g ≤ a) {v : Value} (hn : narrow (tyJ12 3) v = v) (hf : fits (tyJ12 3) v = true) (hd : decode cc pc = .ok (.putfield 44, 3)) (kk : ∀ h1, dv_ob g h1 a 3 4 [f0, f1, f2, v] → dv_st a h h1 → dv_V (dv_lo g) p l e R s m args below meth c h1 k n Q (dv_G lk mr m (pc + 3) ls st)) : dv_V (dv_lo g) p l e R s m args below meth c h k n Q (dv_G lk mr m pc ls (v :: .ref a :: st)) := dv_put cx hK in_J12 rfl tyJ12 tyJ12_ok nmJ12 ho hlo 3 (by decide) q385 (fun _ z => z) rfl hn hf (show 3 < 4 by decide) hd kk
/-- java/util/Hashtable$Entry.next, in java/util/Hashtable -/
theorem gf_386 (cx : CallFix p m c cc nL s args lw_all "java/util/Hashtable") (hK : dv_K g s) {a : Nat} {f0 f1 f2 f3 : Value} (ho : dv_ob g h a 3 4 [f0, f1, f2, f3]) (hd : decode cc pc = .ok (.getfield 105, 3)) (kk : dv_V (dv_lo g) p l e R s m args below meth c h k n Q (dv_G lk mr m (pc + 3) ls (f3 :: st))) : dv_V (dv_lo g) p l e R s m args below meth c h k n Q (dv_G lk mr m pc ls (.ref a :: st)) := dv_get cx hK in_J12 rfl ho 3 (by decide) q386 (fun _ z => z) rfl hd kk
theorem pf_386 (cx : CallFix p m c cc nL s args lw_all "java/util/Hashtable") (hK : dv_K g s) {a : Nat} {f0 f1 f2 f3 : Value} (ho : dv_ob g h a 3 4 [f0, f1, f2, f3]) (hlo : dv_lo g ≤ a) {v : Value} (hn : narrow (tyJ12 3) v = v) (hf : fits (tyJ12 3) v = true) (hd : decode cc pc = .ok (.putfield 105, 3)) (kk : ∀ h1, dv_ob g h1 a 3 4 [f0, f1, f2, v] → dv_st a h h1 → dv_V (dv_lo g) p l e R s m args below meth c h1 k n Q (dv_G lk mr m (pc + 3) ls st)) : dv_V (dv_lo g) p l e R s m args below meth c h k n Q (dv_G lk mr m pc ls (v :: .ref a :: st)) := dv_put cx hK in_J12 rfl tyJ12 tyJ12_ok nmJ12 ho hlo 3 (by decide) q386 (fun _ z => z) rfl hn hf (show 3 < 4 by decide) hd kk
/-- java/util/Hashtable$Enumerator.table, in java/util/Hashtable$Enumerator -/
theorem gf_463 (cx : CallFix p m c cc nL s args lw_all "java/util/Hashtable$Enumerator") (hK : dv_K g s) {a : Nat} {f0 f1 f2 f3 f4 f5 f6 f7 : Value} (ho : dv_ob g h a 4 8 [f0, f1, f2, f3, f4, f5, f6, f7]) (hd : decode cc pc = .ok (.getfield 19, 3)) (kk : dv_V (dv_lo g) p l e R s m args below meth c h k n Q (dv_G lk mr m (pc + 3) ls (f0 :: st))) : dv_V (dv_lo g) p l e R s m args below meth c h k n Q (dv_G lk mr m pc ls (.ref a :: st)) := dv_get cx hK in_J15 rfl ho 0 (by decide) q463 (fun _ z => z) rfl hd kk
theorem pf_463 (cx : CallFix p m c cc nL s args lw_all "java/util/Hashtable$Enumerator") (hK : dv_K g s) {a : Nat} {f0 f1 f2 f3 f4 f5 f6 f7 : Value} (ho : dv_ob g h a 4 8 [f0, f1, f2, f3, f4, f5, f6, f7]) (hlo : dv_lo g ≤ a) (hi : meth.name = "<init>") {v : Value} (hn : narrow (tyJ15 0) v = v) (hf : fits (tyJ15 0) v = true) (hd : decode cc pc = .ok (.putfield 19, 3)) (kk : ∀ h1, dv_ob g h1 a 4 8 [v, f1, f2, f3, f4, f5, f6, f7] → dv_st a h h1 → dv_V (dv_lo g) p l e R s m args below meth c h1 k n Q (dv_G lk mr m (pc + 3) ls st)) : dv_V (dv_lo g) p l e R s m args below meth c h k n Q (dv_G lk mr m pc ls (v :: .ref a :: st)) := dv_putF cx hK in_J15 rfl tyJ15 tyJ15_ok nmJ15 ho hlo 0 (by decide) q463 (fun _ z => z) rfl hi rfl hn hf (show 0 < 8 by decide) hd kk
/-- java/util/Hashtable$Enumerator.index, in java/util/Hashtable$Enumerator -/
theorem gf_464 (cx : CallFix p m c cc nL s args lw_all "java/util/Hashtable$Enumerator") (hK : dv_K g s) {a : Nat} {f0 f1 f2 f3 f4 f5 f6 f7 : Value} (ho : dv_ob g h a 4 8 [f0, f1, f2, f3, f4, f5, f6, f7]) (hd : decode cc pc = .ok (.getfield 20, 3)) (kk : dv_V (dv_lo g) p l e R s m args below meth c h k n Q (dv_G lk mr m (pc + 3) ls (f1 :: st))) : dv_V (dv_lo g) p l e R s m args below meth c h k n Q (dv_G lk mr m pc ls (.ref a :: st)) := dv_get cx hK in_J15 rfl ho 1 (by decide) q464 (fun _ z => z) rfl hd kk
theorem pf_464 (cx : CallFix p m c cc nL s args lw_all "java/util/Hashtable$Enumerator") (hK : dv_K g s) {a : Nat} {f0 f1 f2 f3 f4 f5 f6 f7 : Value} (ho : dv_ob g h a 4 8 [f0, f1, f2, f3, f4, f5, f6, f7]) (hlo : dv_lo g ≤ a) {v : Value} (hn : narrow (tyJ15 1) v = v) (hf : fits (tyJ15 1) v = true) (hd : decode cc pc = .ok (.putfield 20, 3)) (kk : ∀ h1, dv_ob g h1 a 4 8 [f0, v, f2, f3, f4, f5, f6, f7] → dv_st a h h1 → dv_V (dv_lo g) p l e R s m args below meth c h1 k n Q (dv_G lk mr m (pc + 3) ls st)) : dv_V (dv_lo g) p l e R s m args below meth c h k n Q (dv_G lk mr m pc ls (v :: .ref a :: st)) := dv_put cx hK in_J15 rfl tyJ15 tyJ15_ok nmJ15 ho hlo 1 (by decide) q464 (fun _ z => z) rfl hn hf (show 1 < 8 by decide) hd kk
/-- java/util/Hashtable$Enumerator.entry, in java/util/Hashtable$Enumerator -/
theorem gf_465 (cx : CallFix p m c cc nL s args lw_all "java/util/Hashtable$Enumerator") (hK : dv_K g s) {a : Nat} {f0 f1 f2 f3 f4 f5 f6 f7 : Value} (ho : dv_ob g h a 4 8 [f0, f1, f2, f3, f4, f5, f6, f7]) (hd : decode cc pc = .ok (.getfield 37, 3)) (kk : dv_V (dv_lo g) p l e R s m args below meth c h k n Q (dv_G lk mr m (pc + 3) ls (f2 :: st))) : dv_V (dv_lo g) p l e R s m args below meth c h k n Q (dv_G lk mr m pc ls (.ref a :: st)) := dv_get cx hK in_J15 rfl ho 2 (by decide) q465 (fun _ z => z) rfl hd kk
theorem pf_465 (cx : CallFix p m c cc nL s args lw_all "java/util/Hashtable$Enumerator") (hK : dv_K g s) {a : Nat} {f0 f1 f2 f3 f4 f5 f6 f7 : Value} (ho : dv_ob g h a 4 8 [f0, f1, f2, f3, f4, f5, f6, f7]) (hlo : dv_lo g ≤ a) {v : Value} (hn : narrow (tyJ15 2) v = v) (hf : fits (tyJ15 2) v = true) (hd : decode cc pc = .ok (.putfield 37, 3)) (kk : ∀ h1, dv_ob g h1 a 4 8 [f0, f1, v, f3, f4, f5, f6, f7] → dv_st a h h1 → dv_V (dv_lo g) p l e R s m args below meth c h1 k n Q (dv_G lk mr m (pc + 3) ls st)) : dv_V (dv_lo g) p l e R s m args below meth c h k n Q (dv_G lk mr m pc ls (v :: .ref a :: st)) := dv_put cx hK in_J15 rfl tyJ15 tyJ15_ok nmJ15 ho hlo 2 (by decide) q465 (fun _ z => z) rfl hn hf (show 2 < 8 by decide) hd kk
/-- java/util/Hashtable$Enumerator.lastReturned, in java/util/Hashtable$Enumerator -/
theorem gf_466 (cx : CallFix p m c cc nL s args lw_all "java/util/Hashtable$Enumerator") (hK : dv_K g s) {a : Nat} {f0 f1 f2 f3 f4 f5 f6 f7 : Value} (ho : dv_ob g h a 4 8 [f0, f1, f2, f3, f4, f5, f6, f7]) (hd : decode cc pc = .ok (.getfield 41, 3)) (kk : dv_V (dv_lo g) p l e R s m args below meth c h k n Q (dv_G lk mr m (pc + 3) ls (f3 :: st))) : dv_V (dv_lo g) p l e R s m args below meth c h k n Q (dv_G lk mr m pc ls (.ref a :: st)) := dv_get cx hK in_J15 rfl ho 3 (by decide) q466 (fun _ z => z) rfl hd kk
theorem pf_466 (cx : CallFix p m c cc nL s args lw_all "java/util/Hashtable$Enumerator") (hK : dv_K g s) {a : Nat} {f0 f1 f2 f3 f4 f5 f6 f7 : Value} (ho : dv_ob g h a 4 8 [f0, f1, f2, f3, f4, f5, f6, f7]) (hlo : dv_lo g ≤ a) {v : Value} (hn : narrow (tyJ15 3) v = v) (hf : fits (tyJ15 3) v = true) (hd : decode cc pc = .ok (.putfield 41, 3)) (kk : ∀ h1, dv_ob g h1 a 4 8 [f0, f1, f2, v, f4, f5, f6, f7] → dv_st a h h1 → dv_V (dv_lo g) p l e R s m args below meth c h1 k n Q (dv_G lk mr m (pc + 3) ls st)) : dv_V (dv_lo g) p l e R s m args below meth c h k n Q (dv_G lk mr m pc ls (v :: .ref a :: st)) := dv_put cx hK in_J15 rfl tyJ15 tyJ15_ok nmJ15 ho hlo 3 (by decide) q466 (fun _ z => z) rfl hn hf (show 3 < 8 by decide) hd kk
/-- java/util/Hashtable$Enumerator.type, in java/util/Hashtable$Enumerator -/
theorem gf_467 (cx : CallFix p m c cc nL s args lw_all "java/util/Hashtable$Enumerator") (hK : dv_K g s) {a : Nat} {f0 f1 f2 f3 f4 f5 f6 f7 : Value} (ho : dv_ob g h a 4 8 [f0, f1, f2, f3, f4, f5, f6, f7]) (hd : decode cc pc = .ok (.getfield 30, 3)) (kk : dv_V (dv_lo g) p l e R s m args below meth c h k n Q (dv_G lk mr m (pc + 3) ls (f4 :: st))) : dv_V (dv_lo g) p l e R s m args below meth c h k n Q (dv_G lk mr m pc ls (.ref a :: st)) := dv_get cx hK in_J15 rfl ho 4 (by decide) q467 (fun _ z => z) rfl hd kk
theorem pf_467 (cx : CallFix p m c cc nL s args lw_all "java/util/Hashtable$Enumerator") (hK : dv_K g s) {a : Nat} {f0 f1 f2 f3 f4 f5 f6 f7 : Value} (ho : dv_ob g h a 4 8 [f0, f1, f2, f3, f4, f5, f6, f7]) (hlo : dv_lo g ≤ a) (hi : meth.name = "<init>") {v : Value} (hn : narrow (tyJ15 4) v = v) (hf : fits (tyJ15 4) v = true) (hd : decode cc pc = .ok (.putfield 30, 3)) (kk : ∀ h1, dv_ob g h1 a 4 8 [f0, f1, f2, f3, v, f5, f6, f7] → dv_st a h h1 → dv_V (dv_lo g) p l e R s m args below meth c h1 k n Q (dv_G lk mr m (pc + 3) ls st)) : dv_V (dv_lo g) p l e R s m args below meth c h k n Q (dv_G lk mr m pc ls (v :: .ref a :: st)) := dv_putF cx hK in_J15 rfl tyJ15 tyJ15_ok nmJ15 ho hlo 4 (by decide) q467 (fun _ z => z) rfl hi rfl hn hf (show 4 < 8 by decide) hd kk
/-- java/util/Hashtable$Enumerator.iterator, in java/util/Hashtable$Enumerator -/
theorem gf_468 (cx : CallFix p m c cc nL s args lw_all "java/util/Hashtable$Enumerator") (hK : dv_K g s) {a : Nat} {f0 f1 f2 f3 f4 f5 f6 f7 : Value} (ho : dv_ob g h a 4 8 [f0, f1, f2, f3, f4, f5, f6, f7]) (hd : decode cc pc = .ok (.getfield 33, 3)) (kk : dv_V (dv_lo g) p l e R s m args below meth c h k n Q (dv_G lk mr m (pc + 3) ls (f5 :: st))) : dv_V (dv_lo g) p l e R s m args below meth c h k n Q (dv_G lk mr m pc ls (.ref a :: st)) := dv_get cx hK in_J15 rfl ho 5 (by decide) q468 (fun _ z => z) rfl hd kk
theorem pf_468 (cx : CallFix p m c cc nL s args lw_all "java/util/Hashtable$Enumerator") (hK : dv_K g s) {a : Nat} {f0 f1 f2 f3 f4 f5 f6 f7 : Value} (ho : dv_ob g h a 4 8 [f0, f1, f2, f3, f4, f5, f6, f7]) (hlo : dv_lo g ≤ a) (hi : meth.name = "<init>") {v : Value} (hn : narrow (tyJ15 5) v = v) (hf : fits (tyJ15 5) v = true) (hd : decode cc pc = .ok (.putfield 33, 3)) (kk : ∀ h1, dv_ob g h1 a 4 8 [f0, f1, f2, f3, f4, v, f6, f7] → dv_st a h h1 → dv_V (dv_lo g) p l e R s m args below meth c h1 k n Q (dv_G lk mr m (pc + 3) ls st)) : dv_V (dv_lo g) p l e R s m args below meth c h k n Q (dv_G lk mr m pc ls (v :: .ref a :: st)) := dv_putF cx hK in_J15 rfl tyJ15 tyJ15_ok nmJ15 ho hlo 5 (by decide) q468 (fun _ z => z) rfl hi rfl hn hf (show 5 < 8 by decide) hd kk
/-- java/util/Hashtable$Enumerator.expectedModCount, in java/util/Hashtable$Enumerator -/
theorem gf_469 (cx : CallFix p m c cc nL s args lw_all "java/util/Hashtable$Enumerator") (hK : dv_K g s) {a : Nat} {f0 f1 f2 f3 f4 f5 f6 f7 : Value} (ho : dv_ob g h a 4 8 [f0, f1, f2, f3, f4, f5, f6, f7]) (hd : decode cc pc = .ok (.getfield 27, 3)) (kk : dv_V (dv_lo g) p l e R s m args below meth c h k n Q (dv_G lk mr m (pc + 3) ls (f6 :: st))) : dv_V (dv_lo g) p l e R s m args below meth c h k n Q (dv_G lk mr m pc ls (.ref a :: st)) := dv_get cx hK in_J15 rfl ho 6 (by decide) q469 (fun _ z => z) rfl hd kk
theorem pf_469 (cx : CallFix p m c cc nL s args lw_all "java/util/Hashtable$Enumerator") (hK : dv_K g s) {a : Nat} {f0 f1 f2 f3 f4 f5 f6 f7 : Value} (ho : dv_ob g h a 4 8 [f0, f1, f2, f3, f4, f5, f6, f7]) (hlo : dv_lo g ≤ a) {v : Value} (hn : narrow (tyJ15 6) v = v) (hf : fits (tyJ15 6) v = true) (hd : decode cc pc = .ok (.putfield 27, 3)) (kk : ∀ h1, dv_ob g h1 a 4 8 [f0, f1, f2, f3, f4, f5, v, f7] → dv_st a h h1 → dv_V (dv_lo g) p l e R s m args below meth c h1 k n Q (dv_G lk mr m (pc + 3) ls st)) : dv_V (dv_lo g) p l e R s m args below meth c h k n Q (dv_G lk mr m pc ls (v :: .ref a :: st)) := dv_put cx hK in_J15 rfl tyJ15 tyJ15_ok nmJ15 ho hlo 6 (by decide) q469 (fun _ z => z) rfl hn hf (show 6 < 8 by decide) hd kk
/-- java/util/Hashtable$Enumerator.this$0, in java/util/Hashtable$Enumerator -/
theorem gf_470 (cx : CallFix p m c cc nL s args lw_all "java/util/Hashtable$Enumerator") (hK : dv_K g s) {a : Nat} {f0 f1 f2 f3 f4 f5 f6 f7 : Value} (ho : dv_ob g h a 4 8 [f0, f1, f2, f3, f4, f5, f6, f7]) (hd : decode cc pc = .ok (.getfield 3, 3)) (kk : dv_V (dv_lo g) p l e R s m args below meth c h k n Q (dv_G lk mr m (pc + 3) ls (f7 :: st))) : dv_V (dv_lo g) p l e R s m args below meth c h k n Q (dv_G lk mr m pc ls (.ref a :: st)) := dv_get cx hK in_J15 rfl ho 7 (by decide) q470 (fun _ z => z) rfl hd kk
theorem pf_470 (cx : CallFix p m c cc nL s args lw_all "java/util/Hashtable$Enumerator") (hK : dv_K g s) {a : Nat} {f0 f1 f2 f3 f4 f5 f6 f7 : Value} (ho : dv_ob g h a 4 8 [f0, f1, f2, f3, f4, f5, f6, f7]) (hlo : dv_lo g ≤ a) (hi : meth.name = "<init>") {v : Value} (hn : narrow (tyJ15 7) v = v) (hf : fits (tyJ15 7) v = true) (hd : decode cc pc = .ok (.putfield 3, 3)) (kk : ∀ h1, dv_ob g h1 a 4 8 [f0, f1, f2, f3, f4, f5, f6, v] → dv_st a h h1 → dv_V (dv_lo g) p l e R s m args below meth c h1 k n Q (dv_G lk mr m (pc + 3) ls st)) : dv_V (dv_lo g) p l e R s m args below meth c h k n Q (dv_G lk mr m pc ls (v :: .ref a :: st)) := dv_putF cx hK in_J15 rfl tyJ15 tyJ15_ok nmJ15 ho hlo 7 (by decide) q470 (fun _ z => z) rfl hi rfl hn hf (show 7 < 8 by decide) hd kk
end DVF
end
section
/-! ===== Integer: boxes; valueOf, intValue, equals, hashCode ===== -/
set_option maxRecDepth 100000
theorem dv_cat {avs : List Value} (h : avs.all (fun v => v.category == 1) = true) : ∀ v ∈ avs, v.category = 1 := fun v hv => by simpa using List.all_eq_true.mp h v hv
/-- a box at a holds v -/
def dv_in (g : dv_P) (h : dv_H) (a : Nat) (v : Int32) : Prop := ∃ x : Cell, h a = some x ∧ x.cls = dv_k g 5 ∧ x.vm.isStatics = false ∧ x.vm ≠ .unknown ∧ x.slots[(dv_D g).2 5 0]? = some (.int v)
theorem dv_ob.in {g : dv_P} {h : dv_H} {a : Nat} {v : Int32} (ho : dv_ob g h a 5 1 [.int v]) : dv_in g h a v := by
  obtain ⟨x, h1, h2, h3, h4⟩ := ho
  exact ⟨x, h1, h2, by rw [h3]; rfl, (by rw [h3]; exact fun z => by cases z), h4 0 (by decide)⟩
theorem dv_in.kp {g : dv_P} {h h1 : dv_H} {a : Nat} {v : Int32} (hi : dv_in g h a v) (e : h1 a = h a) : dv_in g h1 a v := by
  obtain ⟨x, h2, h3⟩ := hi
  exact ⟨x, by rw [e]; exact h2, h3⟩
theorem dv_in.fr {g : dv_P} {h h1 : dv_H} {a : Nat} {v : Int32} {ks : List ClassId} (hi : dv_in g h a v) (f : dv_fr (dv_lo g) ks h h1) (hk : dv_k g 5 ∉ ks) : dv_in g h1 a v := by
  obtain ⟨x, h2, h3, h4⟩ := hi
  exact ⟨x, f.at h2 (Or.inr (by rw [h3]; exact hk)), h3, h4⟩
theorem dv_in.rc {g : dv_P} {s : State} {h : dv_H} {a : Nat} {v : Int32} (hi : dv_in g h a v) (hK : dv_K g s) : dv_rc s h a RJ9 := by
  obtain ⟨x, h2, h3, h4, -⟩ := hi
  exact ⟨x, h2, h4, by rw [h3]; exact (hK.2.2.1.1.1 5 _ rfl).2.1⟩
theorem dv_in.det {g : dv_P} {h : dv_H} {a : Nat} {v w : Int32} (h1 : dv_in g h a v) (h2 : dv_in g h a w) : v = w := by
  obtain ⟨x, a1, -, -, -, a2⟩ := h1
  obtain ⟨y, b1, -, -, -, b2⟩ := h2
  cases a1.symm.trans b1
  cases a2.symm.trans b2
  rfl
section DVI
variable {g : dv_P} {p : Program} {l : Launch} {e : Env} {R : Room} {s : State} {m : MethodId} {args : Array Value} {below : List Frame} {meth : Method} {c : Code} {h : dv_H} {k n : Nat} {Q : State → Prop}
variable {lk : Option Addr} {mr : Nat} {pc nL : Nat} {ls : List Slot} {st : List Value} {cc : ByteArray} {own : String}
/-- the int of a box -/
theorem dv_geti (cx : CallFix p m c cc nL s args lw_all "java/lang/Integer") (hK : dv_K g s) {a : Nat} {v : Int32} (hi : dv_in g h a v) (hd : decode cc pc = .ok (.getfield 205, 3))
    (kk : dv_V (dv_lo g) p l e R s m args below meth c h k n Q (dv_G lk mr m (pc + 3) ls (.int v :: st))) : dv_V (dv_lo g) p l e R s m args below meth c h k n Q (dv_G lk mr m pc ls (.ref a :: st)) := by
  obtain ⟨hx, hb, hml, hown, hts⟩ := cx
  obtain ⟨x, q1, q2, q3, q4, q5⟩ := hi
  obtain ⟨hS, hfc, kC, hkC, hkind⟩ := hK.2.2.1.1.1 5 (RJ9, TJ9, 1) rfl
  obtain ⟨cf, kf, fi, f, hfi, hsl⟩ := hS 0 (by decide)
  intro H locs h1 h2 h3
  rw [← h1] at q1
  obtain ⟨cell, r1, r2⟩ := dv_cell q1
  subst r2
  refine W.getf hx hb hown (hts _ q149) hfi (u_facts hfc hkC (u_lays (k := 0) hts in_J9 (by decide)) hfi).1 r1 (fun z => q4 z) (v := .int v) ?_ rfl rfl hd (kk H locs h1 h2 h3)
  rw [hsl]
  exact q5
theorem dv_gets (cx : CallFix p m c cc nL s args lw_all own) (hK : dv_K g s) {C nm d : String} {v : Value} {index : Nat} {ks : List ClassId} (hZ : va_Z C nm d v (fun q => dv_lo g ≤ q) s s.heap) (hF : dv_fr (dv_lo g) ks (dv_ct s.heap) h) (hlink : Cond.fieldLink own index C nm d ∈ lw_all) (hd : decode cc pc = .ok (.getstatic index, 3))
    (kk : dv_V (dv_lo g) p l e R s m args below meth c h k n Q (dv_G lk mr m (pc + 3) ls (v :: st))) : dv_V (dv_lo g) p l e R s m args below meth c h k n Q (dv_G lk mr m pc ls st) := by
  obtain ⟨hx, hb, hml, hown, hts⟩ := cx
  obtain ⟨cf, kf, fi, f, a, cell, z1, z2, z3, z4, z5, z6, z7, z8⟩ := hZ
  intro H locs h1 h2 h3
  have hS := dv_vaS h1 h2 h3 hF hK.2.1
  exact W.gets hx hb hown (hts _ hlink) z1 z2 z3 z4 (by rw [hS.2.1 a (Array.getElem?_eq_some_iff.mp z5).1 z8]; exact z5) (fun e => by rw [e] at z6; cases z6) z7 rfl hd (kk H locs h1 h2 h3)
theorem dv_tq (cx : CallFix p m c cc nL s args lw_all own) (hK : dv_K g s) {C : String} {t N i : Nat} {f : Nat → Value} {v : Value} {x : Int32} {ks : List ClassId} (hT : va_T (.object C) t N f (fun q => dv_lo g ≤ q) s s.heap) (hF : dv_fr (dv_lo g) ks (dv_ct s.heap) h) (hx' : x = nI i) (hi : i < N) (hN : N < 2 ^ 31) (hv : f i = v) (hd : decode cc pc = .ok (.aaload, 1))
    (kk : dv_V (dv_lo g) p l e R s m args below meth c h k n Q (dv_G lk mr m (pc + 1) ls (v :: st))) : dv_V (dv_lo g) p l e R s m args below meth c h k n Q (dv_G lk mr m pc ls (.int x :: .ref t :: st)) := by
  obtain ⟨hx, hb, hml, hown, hts⟩ := cx
  obtain ⟨cell, z1, z2, z3, z4, z5, z6, z7⟩ := hT
  subst hx'
  have hcl : (nI i).toNatClampNeg = i := nI_clamp (by omega)
  intro H locs h1 h2 h3
  have hS := dv_vaS h1 h2 h3 hF hK.2.1
  refine W.aald (v := v) (ty := .object C) hx hb (by rw [hS.2.1 t (Array.getElem?_eq_some_iff.mp z1).1 z7]; exact z1) z2 rfl z3 ?_ (by rw [hcl, z6 _ hi, hv]) rfl rfl hd (kk H locs h1 h2 h3)
  rw [hcl]
  intro z
  rcases z with z | z
  · exact nI_pos (by omega) z
  · omega
end DVI
/-- a cached box, in every later view -/
theorem dv_cached {g : dv_P} {s : State} {h : dv_H} {ks : List ClassId} (hK : dv_K g s) (hF : dv_fr (dv_lo g) ks (dv_ct s.heap) h) {i : Nat} (hi : i < 256) : dv_in g h (dv_ad g i) (vb_c i) := by
  have hB := hK.2.2.2.2.2.2
  obtain ⟨cell, a1, a2, a3, a4⟩ := hB.1 i hi
  obtain ⟨cf, kf, fi, f, cell2, b1, b2, b3, b4, b5, b6⟩ := hB.2 i hi
  cases a1.symm.trans b3
  obtain ⟨hS, hfc, kC, hkC, hkind⟩ := hK.2.2.1.1.1 5 (RJ9, TJ9, 1) rfl
  obtain ⟨cf', kf', fi', f', hfi, hsl⟩ := hS 0 (by decide)
  have b1' : s.fieldFound? (TJ9 0).1 (TJ9 0).2.1 (TJ9 0).2.2.1 = some (cf, kf, fi, f) := b1
  cases hfi.symm.trans b1'
  have e1 : dv_ct s.heap (dv_ad g i) = some (dv_er cell) := by simp [dv_ct, a1]
  refine ⟨dv_er cell, hF.at e1 (Or.inl (Nat.not_le.mp a4)), ?_, a2, b4, ?_⟩
  · exact Option.some.inj (a3.symm.trans hfc)
  · have e2 : (dv_D g).2 5 0 = f.slot := hsl.symm
    rw [e2]
    exact b5
/-- Number(): nothing -/
theorem mt_Number_init (l : Launch) (g : dv_P) (a : Nat) : dv_M l yJ6_init (ws_ yJ6_init cJ6_init 1 none) 1 28 0 0 g [.ref a] [] (fun _ => True) [] (fun v h h1 => v = none ∧ h1 = h) := by
  refine dv_of (by decide +kernel) (dv_cat rfl) ?_
  intro p e s m args below meth c Q cx hnm hK hM hP Ret
  refine dv_aload_n (pc := 0) cx dJ6_init_0 rfl rfl rfl ?_
  refine dv_objInit cx q148 q31 q32 rfl (by decide) (Nat.le_of_ble_eq_true rfl) dJ6_init_1 ?_
  exact Ret _ _ _ _ _ _ _ (Nat.le_refl _) (Nat.le_refl _) ⟨rfl, rfl⟩ dv_fr.rf (dv_rov dJ6_init_4)
/-- Integer(x): the fresh box holds x -/
theorem mt_Integer_init (l : Launch) (g : dv_P) (a : Nat) (x : Int32) (hlo : dv_lo g ≤ a) : dv_M l yJ9_init (ws_ yJ9_init cJ9_init 2 none) 2 56 0 0 g [.ref a, .int x] [] (fun h => dv_ob g h a 5 1 [.int 0]) [dv_k g 5] (fun v h h1 => v = none ∧ dv_ob g h1 a 5 1 [.int x] ∧ dv_st a h h1) := by
  refine dv_of (by decide +kernel) (dv_cat rfl) ?_
  intro p e s m args below meth c Q cx hnm hK hM hP Ret
  refine dv_aload_n (pc := 0) cx dJ9_init_0 rfl rfl rfl ?_
  refine dv_cI (rest := []) (av := []) cx hK (mt_Number_init l g a) q145 q146 q13 q147 rfl (n9 := 0) ⟨by decide, by decide, by decide +kernel⟩ rfl ⟨⟨[], dv_fr.rf⟩, dv_m0, trivial, Nat.le_refl _, Nat.le_refl _⟩ ⟨⟨Nat.le_of_ble_eq_true rfl, Nat.le_of_ble_eq_true rfl⟩, Nat.le_of_ble_eq_true rfl⟩ rfl rfl dJ9_init_1 (fun v h1 hS hf => ?_)
  obtain ⟨rfl, rfl⟩ := hS
  refine dv_aload_n (pc := 4) cx dJ9_init_4 rfl rfl rfl ?_
  refine dv_iload_n (pc := 5) cx dJ9_init_5 rfl rfl ?_
  refine pf_149 cx hK hP hlo hnm rfl rfl dJ9_init_6 (fun h1 ho hst => ?_)
  exact Ret _ _ _ _ _ _ _ (Nat.le_refl _) (Nat.le_refl _) ⟨rfl, ho, hst⟩ (hP.st hst List.mem_cons_self hlo) (dv_rov dJ9_init_9)
/-- Integer.valueOf(x): a box of x -/
theorem mt_valueOf (l : Launch) (g : dv_P) (x : Int32) : dv_M l yJ9_valueOf (ws_ yJ9_valueOf cJ9_valueOf 1 (some (.object "java/lang/Integer"))) 3 84 1 1 g [.int x] [] (fun _ => True) [] (fun v h h1 => ∃ a, v = some (.ref a) ∧ dv_in g h1 a x) := by
  refine dv_of (by decide +kernel) (dv_cat rfl) ?_
  intro p e s m args below meth c Q cx hnm hK hM hP Ret
  have fresh : dv_V (dv_lo g) p l e (dv_rm 3 84 1 1) s m args below meth c (dv_ct s.heap) 0 0 Q (dv_G none 0 m 23 [.val (.int x)] []) := by
    refine dv_new (ci := 5) (fs := [.int 0]) (C := RJ9) (T := TJ9) (N := 1) cx hK in_J9 rfl tyJ9 tyJ9_ok q140 q141 q16 (fun j hj => by rcases (show j = 0 by omega) with rfl; rfl) (Nat.le_refl _) (Nat.le_refl _) dJ9_valueOf_23 (fun a h1 hw hlo hsz ho => ?_)
    refine dv_dup (pc := 26) cx dJ9_valueOf_26 rfl ?_
    refine dv_iload_n (pc := 27) cx dJ9_valueOf_27 rfl rfl ?_
    refine dv_cI (rest := [.ref a]) (av := [.int x]) cx hK (mt_Integer_init l g a x hlo) q142 q143 q16 q144 rfl (n9 := 1) ⟨by decide, by decide, by decide +kernel⟩ rfl ⟨⟨[], hw.fr⟩, dv_m0, ho, Nat.le_refl _, Nat.le_refl _⟩ ⟨⟨Nat.le_of_ble_eq_true rfl, Nat.le_of_ble_eq_true rfl⟩, Nat.le_of_ble_eq_true rfl⟩ rfl rfl dJ9_valueOf_28 (fun v h2 hS hf => ?_)
    obtain ⟨rfl, ho2, hst⟩ := hS
    refine Ret _ _ _ _ _ _ _ (Nat.le_refl _) (Nat.le_refl _) ⟨a, rfl, ho2.in⟩ ?_ (dv_roa dJ9_valueOf_31)
    intro q z hz
    have e1 : q ≠ a := fun w => by rw [w, hw.1] at hz; cases hz
    exact ⟨z, by rw [hst.ne e1, hw.ne e1]; exact hz, rfl, rfl, fun _ => rfl⟩
  refine dv_iload_n (pc := 0) cx dJ9_valueOf_0 rfl rfl ?_
  refine dv_bipush (pc := 1) (v := (-128)) cx dJ9_valueOf_1 (by decide) ?_
  refine dv_icmp_lt (tgt := 23) cx dJ9_valueOf_3 (by decide) (fun _ => fresh) (fun c1 => ?_)
  refine dv_iload_n (pc := 6) cx dJ9_valueOf_6 rfl rfl ?_
  refine dv_gets (ks := []) cx hK hK.2.2.2.1 dv_fr.rf q136 dJ9_valueOf_7 ?_
  refine dv_icmp_gt (tgt := 23) cx dJ9_valueOf_10 (by decide) (fun _ => fresh) (fun c2 => ?_)
  refine dv_gets (ks := []) cx hK hK.2.2.2.2.1 dv_fr.rf q138 dJ9_valueOf_13 ?_
  obtain ⟨j, hj, e1, e2⟩ := bx_small c1 c2
  refine dv_iload_n (pc := 16) cx dJ9_valueOf_16 rfl rfl ?_
  refine dv_sipush (pc := 17) (v := 128) cx dJ9_valueOf_17 (by decide) ?_
  refine dv_iadd (pc := 20) cx dJ9_valueOf_20 rfl ?_
  refine dv_tq (ks := []) (i := j) cx hK hK.2.2.2.2.2.1 dv_fr.rf e1 hj (by decide) rfl dJ9_valueOf_21 ?_
  refine Ret _ _ _ _ _ _ _ (Nat.zero_le _) (Nat.zero_le _) ⟨_, rfl, ?_⟩ dv_fr.rf (dv_roa dJ9_valueOf_22)
  rw [e2]
  exact dv_cached hK (dv_fr.rf (ks := [])) hj
/-- intValue(): the int -/
theorem mt_intValue (l : Launch) (g : dv_P) (a : Nat) (x : Int32) : dv_M l yJ9_intValue (ws_ yJ9_intValue cJ9_intValue 1 (some .int)) 0 0 0 0 g [.ref a] [] (fun h => dv_in g h a x) [] (fun v h h1 => v = some (.int x) ∧ h1 = h) := by
  refine dv_of (by decide +kernel) (dv_cat rfl) ?_
  intro p e s m args below meth c Q cx hnm hK hM hP Ret
  refine dv_aload_n (pc := 0) cx dJ9_intValue_0 rfl rfl rfl ?_
  refine dv_geti cx hK hP dJ9_intValue_1 ?_
  exact Ret _ _ _ _ _ _ _ (Nat.le_refl _) (Nat.le_refl _) ⟨rfl, rfl⟩ dv_fr.rf (dv_roi dJ9_intValue_4)
/-- equals of two boxes: the ints are equal -/
theorem mt_equals (l : Launch) (g : dv_P) (a b : Nat) (x y : Int32) : dv_M l yJ9_equals (ws_ yJ9_equals cJ9_equals 2 (some .boolean)) 1 28 0 0 g [.ref a, .ref b] [] (fun h => dv_in g h a x ∧ dv_in g h b y) [] (fun v h h1 => v = some (.int (if x = y then 1 else 0)) ∧ h1 = h) := by
  refine dv_of (by decide +kernel) (dv_cat rfl) ?_
  intro p e s m args below meth c Q cx hnm hK hM hP Ret
  obtain ⟨hPa, hPb⟩ := hP
  have hPb' := hPb
  obtain ⟨yc, b1, b2, b3, -⟩ := hPb'
  refine dv_aload_n (pc := 0) cx dJ9_equals_0 rfl rfl rfl ?_
  refine dv_instI cx hK q140 b1 b3 b2 dJ9_equals_1 ?_
  refine dv_if_eq (tgt := 27) cx dJ9_equals_4 (by decide) (fun z => absurd z (by decide)) (fun _ => ?_)
  refine dv_aload_n (pc := 7) cx dJ9_equals_7 rfl rfl rfl ?_
  refine dv_geti cx hK hPa dJ9_equals_8 ?_
  refine dv_aload_n (pc := 11) cx dJ9_equals_11 rfl rfl rfl ?_
  refine dv_castI cx hK q140 b1 b3 b2 dJ9_equals_12 ?_
  refine dv_cV (C := RJ9) (rest := [.int x]) (av := []) cx hK (mt_intValue l g b y) q292 q213 q214 q16 q215 (n9 := 0) ⟨by decide, by decide, by decide +kernel⟩ rfl (hPb.rc hK) ⟨⟨[], dv_fr.rf⟩, dv_m0, hPb, Nat.le_refl _, Nat.le_refl _⟩ ⟨⟨Nat.le_of_ble_eq_true rfl, Nat.le_of_ble_eq_true rfl⟩, Nat.le_of_ble_eq_true rfl⟩ rfl rfl dJ9_equals_15 (fun v h1 hS hf => ?_)
  obtain ⟨rfl, rfl⟩ := hS
  refine dv_icmp_ne (tgt := 25) cx dJ9_equals_18 (by decide) (fun hc => ?_) (fun hc => ?_)
  · refine dv_iconst (pc := 25) (v := 0) cx dJ9_equals_25 (by decide) ?_
    exact Ret _ _ _ _ _ _ _ (Nat.le_refl _) (Nat.le_refl _) ⟨by rw [if_neg hc], rfl⟩ dv_fr.rf (dv_roz (Or.inl rfl) dJ9_equals_26)
  · refine dv_iconst (pc := 21) (v := 1) cx dJ9_equals_21 (by decide) ?_
    refine dv_goto (pc := 22) (tgt := 26) cx dJ9_equals_22 (by decide) ?_
    exact Ret _ _ _ _ _ _ _ (Nat.le_refl _) (Nat.le_refl _) ⟨by rw [if_pos hc], rfl⟩ dv_fr.rf (dv_roz (Or.inr rfl) dJ9_equals_26)
/-- hashCode(x) -/
theorem mt_hash (l : Launch) (g : dv_P) (x : Int32) : dv_M l yJ9_hashCode_2 (ws_ yJ9_hashCode_2 cJ9_hashCode_2 1 (some .int)) 0 0 0 0 g [.int x] [] (fun _ => True) [] (fun v h h1 => v = some (.int x) ∧ h1 = h) := by
  refine dv_of (by decide +kernel) (dv_cat rfl) ?_
  intro p e s m args below meth c Q cx hnm hK hM hP Ret
  refine dv_iload_n (pc := 0) cx dJ9_hashCode_2_0 rfl rfl ?_
  exact Ret _ _ _ _ _ _ _ (Nat.le_refl _) (Nat.le_refl _) ⟨rfl, rfl⟩ dv_fr.rf (dv_roi dJ9_hashCode_2_1)
/-- hashCode() of a box: its int -/
theorem mt_hashCode (l : Launch) (g : dv_P) (a : Nat) (x : Int32) : dv_M l yJ9_hashCode (ws_ yJ9_hashCode cJ9_hashCode 1 (some .int)) 1 28 0 0 g [.ref a] [] (fun h => dv_in g h a x) [] (fun v h h1 => v = some (.int x) ∧ h1 = h) := by
  refine dv_of (by decide +kernel) (dv_cat rfl) ?_
  intro p e s m args below meth c Q cx hnm hK hM hP Ret
  refine dv_aload_n (pc := 0) cx dJ9_hashCode_0 rfl rfl rfl ?_
  refine dv_geti cx hK hP dJ9_hashCode_1 ?_
  refine dv_cS (rest := []) cx hK (mt_hash l g x) q356 q357 q16 q358 (n9 := 1) ⟨by decide, by decide, by decide +kernel⟩ rfl ⟨⟨[], dv_fr.rf⟩, dv_m0, trivial, Nat.le_refl _, Nat.le_refl _⟩ ⟨⟨Nat.le_of_ble_eq_true rfl, Nat.le_of_ble_eq_true rfl⟩, Nat.le_of_ble_eq_true rfl⟩ rfl rfl dJ9_hashCode_4 (fun v h1 hS hf => ?_)
  obtain ⟨rfl, rfl⟩ := hS
  exact Ret _ _ _ _ _ _ _ (Nat.le_refl _) (Nat.le_refl _) ⟨rfl, rfl⟩ dv_fr.rf (dv_roi dJ9_hashCode_7)
end
section
/-! ===== System.arraycopy of boxes over views; Math.min, max; ArraysSupport.newLength; Arrays.copyOf ===== -/
set_option maxRecDepth 100000
theorem dv_nw.up {a : Nat} {h h1 : dv_H} {x : Cell} (s : dv_nw a h h1) : dv_nw a h (dv_up h1 a x) := by
  obtain ⟨e0, y, e⟩ := s
  exact ⟨e0, x, by rw [e, dv_up_up]⟩
theorem dv_er_pairs (at_ : Nat) : ∀ (vs : List (Value × Nat)) (c : Cell), dv_er (c.storePairs at_ vs) = (dv_er c).storePairs at_ vs
  | [], _ => rfl
  | q :: vs, c => by
    show dv_er ((c.setSlot (at_ + q.2) q.1).storePairs at_ vs) = ((dv_er c).setSlot (at_ + q.2) q.1).storePairs at_ vs
    rw [dv_er_pairs at_ vs]
    rfl
section DVY
variable {g : dv_P} {p : Program} {l : Launch} {e : Env} {R : Room} {s : State} {m : MethodId} {args : Array Value} {below : List Frame} {meth : Method} {c : Code} {h : dv_H} {k n : Nat} {Q : State → Prop}
variable {lk : Option Addr} {mr : Nat} {pc nL : Nat} {ls : List Slot} {st : List Value} {cc : ByteArray} {own : String}
set_option maxHeartbeats 1000000 in
theorem dv_copy (cx : CallFix p m c cc nL s args lw_all own) (hK : dv_K g s) {index : Nat} (hlink : Cond.methodLink own index arraycopyName ∈ lw_all) {a0 a n0 n1 sp dp nn : Nat} {f f' : Nat → Option Nat} {x1 x2 x3 : Int32} (ha0 : h a0 = some (arrV (dv_k g 10) n0 (fun j => va_rf (f j)))) (ha : h a = some (arrV (dv_k g 10) n1 (fun j => va_rf (f' j)))) (hlo : dv_lo g ≤ a)
    (e1 : x1 = nI sp) (e2 : x2 = nI dp) (e3 : x3 = nI nn) (b0 : n0 < 2 ^ 31) (b1 : n1 < 2 ^ 31) (h4 : sp + nn ≤ n0) (h5 : dp + nn ≤ n1) (hel : ∀ i, i < nn → ∀ y, f (sp + i) = some y → ∃ v, dv_in g h y v) (hsz : ls.length = nL) (hfr : 1 ≤ R.frames) (hlc : 2 * mr + (st.map fun v => v.category).sum + 18 ≤ R.locals) (hd : decode cc pc = .ok (.invokestatic index, 3))
    (kk : dv_V (dv_lo g) p l e R s m args below meth c (dv_up h a (arrV (dv_k g 10) n1 (fun j => va_rf (va_cpy f f' sp dp nn j)))) k n Q (dv_G lk mr m (pc + 3) ls st)) : dv_V (dv_lo g) p l e R s m args below meth c h k n Q (dv_G lk mr m pc ls (.int x3 :: .int x2 :: .ref a :: .int x1 :: .ref a0 :: st)) := by
  obtain ⟨hx, hb, hml, hown, hts⟩ := cx
  subst e1; subst e2; subst e3
  have c1 : (nI sp).toNatClampNeg = sp := nI_clamp (by omega)
  have c2 : (nI dp).toNatClampNeg = dp := nI_clamp (by omega)
  have c3 : (nI nn).toNatClampNeg = nn := nI_clamp (by omega)
  have hlc' : 2 * mr + (st.map fun v => v.category).sum + (nativeFrameWords "java/lang/System" "arraycopy" 5 + 11) ≤ R.locals := by
    have hw : nativeFrameWords "java/lang/System" "arraycopy" 5 = 7 := by decide
    rw [hw]
    exact hlc
  intro H locs h1 h2 h3 T hT X
  subst hT
  subst h1
  obtain ⟨cs, r1, r2⟩ := dv_cell ha0
  obtain ⟨cd, u1, u2⟩ := dv_cell ha
  obtain ⟨-, k0, hk0, cm0, hkk0⟩ := (hK.2.2.1.1.2 0 (dv_k g 10, .object "java/lang/Object") rfl).1 n0 (fun j => va_rf (f j))
  obtain ⟨kA, comp, p1, p2, p3, -⟩ := (hK.2.2.1.1.2 0 (dv_k g 10, .object "java/lang/Object") rfl).2
  have vs : cs.vm = .none := by have z : (dv_er cs).vm = .none := by rw [r2]; rfl
                                exact z
  have vd : cd.vm = .none := by have z : (dv_er cd).vm = .none := by rw [u2]; rfl
                                exact z
  have ks : cs.cls = dv_k g 10 := by have z : (dv_er cs).cls = dv_k g 10 := by rw [r2]; rfl
                                     exact z
  have kd : cd.cls = dv_k g 10 := by have z : (dv_er cd).cls = dv_k g 10 := by rw [u2]; rfl
                                     exact z
  have zs : cs.slots.size = n0 := by have z : (dv_er cs).slots.size = n0 := by rw [r2]; exact arrV_size _ _ _
                                     exact z
  have zd : cd.slots.size = n1 := by have z : (dv_er cd).slots.size = n1 := by rw [u2]; exact arrV_size _ _ _
                                     exact z
  obtain ⟨vm', X', step⟩ := X.arraycopy hx hown (hts _ hlink) (hts _ q210) (hts _ q209) (hts _ q20) (src := a0) (dst := a) (cs := cs) (cd := cd) (srcPos := nI sp) (destPos := nI dp) (n := nI nn) r1 u1
    (fun _ z => by rw [vs] at z; cases z) (fun _ z => by rw [vd] at z; cases z) (fun z => by rw [vs] at z; cases z) (fun z => by rw [vd] at z; cases z) (by rw [ks]; exact hk0) (by rw [kd]; exact p1) hkk0 p2 rfl (nI_pos (by omega)) (nI_pos (by omega)) (nI_pos (by omega))
    (by rw [nI_toInt (by omega), nI_toInt (by omega), zs]; omega)
    (by rw [nI_toInt (by omega), nI_toInt (by omega), zd]; omega)
    (fun vm₁ hal i hi => by
      rw [c3] at hi
      have e9 : cs.slots.getD ((nI sp).toNatClampNeg + i) .null = va_rf (f (sp + i)) := by
        have z : (dv_er cs).slots.getD (sp + i) .null = va_rf (f (sp + i)) := by
          rw [r2, Array.getD_eq_getD_getElem?, arrV_read _ _ (by omega)]
          rfl
        rw [c1]
        exact z
      rw [e9]
      cases hy : f (sp + i) with
      | none => exact ⟨rfl, trivial⟩
      | some y =>
        obtain ⟨v, xc, w1, w2, w3, -⟩ := hel i hi y hy
        obtain ⟨cellV, g1, g2⟩ := dv_cell w1
        have g3 : cellV.cls = dv_k g 5 := by rw [← w2, ← g2]; rfl
        have g4 : cellV.vm.isStatics = false := by rw [← w3, ← g2]; rfl
        have hfi : s.vm.findClass RJ9 = some (dv_k g 5) := (hK.2.2.1.1.1 5 _ rfl).2.1
        obtain ⟨kC, hkC, -⟩ := Vm.findClass_spec hfi
        obtain ⟨kE, hkE, -⟩ := Vm.findClass_spec p3
        obtain ⟨kC', hkC', -⟩ := hal.2.2 _ _ hkC
        obtain ⟨kE', hkE', -⟩ := hal.2.2 _ _ hkE
        refine ⟨rfl, cellV, g1, (fun q z => by rw [z] at g4; cases g4), ⟨kC', by rw [g3]; exact hkC'⟩, ⟨kE', hkE'⟩, ?_⟩
        show vm₁.assignable _ _ = true
        rw [hal.assignable, g3]
        exact vb_asgC (C := RJ9) (E := "java/lang/Object") hK.2.2.1.2.2.2.1 _ _ p3 hfi)
    (g := dv_G lk mr m pc ls (.int (nI nn) :: .int (nI dp) :: .ref a :: .int (nI sp) :: .ref a0 :: st)) rfl (by rw [hml]; exact dv_sz hsz) (rest := st) rfl (by rw [hb]; exact hd) hfr hlc'
  have e5 : dv_er (copied cs cd (nI sp) (nI dp) (nI nn)) = arrV (dv_k g 10) n1 (fun j => va_rf (va_cpy f f' sp dp nn j)) := by
    show dv_er (cd.storePairs (nI dp).toNatClampNeg (cs.stretch (nI sp).toNatClampNeg (nI nn).toNatClampNeg).zipIdx) = _
    rw [dv_er_pairs, u2, c1, c2, c3]
    have z : cs.stretch sp nn = (dv_er cs).stretch sp nn := rfl
    rw [z, r2]
    exact va_copied (fun z => va_rf z) (dv_k g 10) (dv_k g 10) f f' h4
  have hltd : a < T.heap.size := (Array.getElem?_eq_some_iff.mp u1).1
  have w1 : ((T.setVm vm').setCell a (copied cs cd (nI sp) (nI dp) (nI nn))).heap[a]? = some (copied cs cd (nI sp) (nI dp) (nI nn)) := heapAt_setCell_self _ hltd
  have w3 : ∀ q, q ≠ a → ((T.setVm vm').setCell a (copied cs cd (nI sp) (nI dp) (nI nn))).heap[q]? = T.heap[q]? := fun q hq => heapAt_setCell_ne _ (Ne.symm hq)
  obtain ⟨t, a1, b1⟩ := kk _ _ (by rw [dv_ct_set w1 w3, e5]) (h2.set u1 w1 (Cell.storePairs_facts _ _ _).2.2.2.2 (size_setCell _ _ _) w3) (fun q hq => by
      rcases List.mem_append.mp hq with z | z
      · exact h3 q z
      · obtain ⟨w, -, hw⟩ := List.mem_map.mp z
        rw [← hw]
        exact hlo) _ rfl X'
  exact ⟨t, step t a1, b1⟩
theorem dv_ldcM (cx : CallFix p m c cc nL s args lw_all own) {C : String} {index mi lo : Nat} (hw : Cond.classLink own index C ∈ lw_all) (hM : va_Mi C mi s) (hd : decode cc pc = .ok (.ldc index, 2))
    (kk : dv_V lo p l e R s m args below meth c h k n Q (dv_G none 0 m (pc + 2) ls (.ref mi :: st))) : dv_V lo p l e R s m args below meth c h k n Q (dv_G none 0 m pc ls st) :=
  fun H locs h1 h2 h3 => va_ldcM cx.1 cx.2.1 cx.2.2.2.1 (cx.2.2.2.2 _ hw) hM hd (kk H locs h1 h2 h3)
theorem dv_acmpSame (cx : CallFix p m c cc nL s args lw_all own) {a lo : Nat} {off : Int} (hd : decode cc pc = .ok (.if_acmp .ne off, 3)) (tgt : Nat) (ht : (pc : Int) + off = (tgt : Int))
    (kk : dv_V lo p l e R s m args below meth c h k n Q (dv_G none 0 m (pc + 3) ls st)) : dv_V lo p l e R s m args below meth c h k n Q (dv_G none 0 m pc ls (.ref a :: .ref a :: st)) :=
  fun H locs h1 h2 h3 => lv_acmp_ne (rx := some a) (ry := some a) cx.1 cx.2.1 hd ht (fun z => absurd rfl z) (fun _ => kk H locs h1 h2 h3)
theorem dv_getC (cx : CallFix p m c cc nL s args lw_all own) (hK : dv_K g s) {index a n0 : Nat} {f : Nat → Value} (hlink : Cond.methodLink own index ⟨"java/lang/Object", "getClass", "()Ljava/lang/Class;"⟩ ∈ lw_all) (ha : h a = some (arrV (dv_k g 10) n0 f)) (hsz : ls.length = nL) (hfr : 1 ≤ R.frames) (hlc : (st.map fun v => v.category).sum + 14 ≤ R.locals) (hd : decode cc pc = .ok (.invokevirtual index, 3))
    (kk : dv_V (dv_lo g) p l e R s m args below meth c h k n Q (dv_G none 0 m (pc + 3) ls (.ref (dv_mi g) :: st))) : dv_V (dv_lo g) p l e R s m args below meth c h k n Q (dv_G none 0 m pc ls (.ref a :: st)) := by
  obtain ⟨hx, hb, hml, hown, hts⟩ := cx
  obtain ⟨kA, comp, p1, p2, p3, p4⟩ := (hK.2.2.1.1.2 0 (dv_k g 10, .object "java/lang/Object") rfl).2
  intro H locs h1 h2 h3
  rw [← h1] at ha
  obtain ⟨cell, r1, r2⟩ := dv_cell ha
  have e1 : cell.vm.isStatics = false := by have z : (dv_er cell).vm.isStatics = false := by rw [r2]; rfl
                                            exact z
  have e2 : cell.cls = dv_k g 10 := by have z : (dv_er cell).cls = dv_k g 10 := by rw [r2]; rfl
                                       exact z
  exact va_getC hx hb (hml.trans (by rw [← hsz]; simp)) hown (hts _ hlink) (va_Dc.use hK.2.2.1.2.2.2.2.2.2.2.2.2.2.1) (hts _ q535) (hts _ q190) (hts _ q199) hK.2.2.1.2.2.2.2.2.2.2.2.2.2.2.1 ⟨cell, r1, e1, by rw [e2]; exact p4⟩ hfr hlc hd (kk H locs h1 h2 h3)
end DVY
/-- Math.min(a, b) of ints -/
theorem mt_min (l : Launch) (g : dv_P) (x y : Int32) : dv_M l yJ8_min_2 (ws_ yJ8_min_2 cJ8_min_2 2 (some .int)) 0 0 0 0 g [.int x, .int y] [] (fun _ => True) [] (fun v h h1 => v = some (.int (if y < x then y else x)) ∧ h1 = h) := by
  refine dv_of (by decide +kernel) (dv_cat rfl) ?_
  intro p e s m args below meth c Q cx hnm hK hM hP Ret
  refine dv_iload_n (pc := 0) cx dJ8_min_2_0 rfl rfl ?_
  refine dv_iload_n (pc := 1) cx dJ8_min_2_1 rfl rfl ?_
  refine dv_icmp_gt (tgt := 9) cx dJ8_min_2_2 (by decide) (fun hc => ?_) (fun hc => ?_)
  · refine dv_iload_n (pc := 9) cx dJ8_min_2_9 rfl rfl ?_
    exact Ret _ _ _ _ _ _ _ (Nat.le_refl _) (Nat.le_refl _) ⟨by rw [if_pos hc], rfl⟩ dv_fr.rf (dv_roi dJ8_min_2_10)
  · refine dv_iload_n (pc := 5) cx dJ8_min_2_5 rfl rfl ?_
    refine dv_goto (pc := 6) (tgt := 10) cx dJ8_min_2_6 (by decide) ?_
    exact Ret _ _ _ _ _ _ _ (Nat.le_refl _) (Nat.le_refl _) ⟨by rw [if_neg hc], rfl⟩ dv_fr.rf (dv_roi dJ8_min_2_10)
theorem mt_max (l : Launch) (g : dv_P) (x y : Int32) : dv_M l yJ8_max (ws_ yJ8_max cJ8_max 2 (some .int)) 0 0 0 0 g [.int x, .int y] [] (fun _ => True) [] (fun v h h1 => v = some (.int (if x < y then y else x)) ∧ h1 = h) := by
  refine dv_of (by decide +kernel) (dv_cat rfl) ?_
  intro p e s m args below meth c Q cx hnm hK hM hP Ret
  refine dv_iload_n (pc := 0) cx dJ8_max_0 rfl rfl ?_
  refine dv_iload_n (pc := 1) cx dJ8_max_1 rfl rfl ?_
  refine dv_icmp_lt (tgt := 9) cx dJ8_max_2 (by decide) (fun hc => ?_) (fun hc => ?_)
  · refine dv_iload_n (pc := 9) cx dJ8_max_9 rfl rfl ?_
    exact Ret _ _ _ _ _ _ _ (Nat.le_refl _) (Nat.le_refl _) ⟨by rw [if_pos hc], rfl⟩ dv_fr.rf (dv_roi dJ8_max_10)
  · refine dv_iload_n (pc := 5) cx dJ8_max_5 rfl rfl ?_
    refine dv_goto (pc := 6) (tgt := 10) cx dJ8_max_6 (by decide) ?_
    exact Ret _ _ _ _ _ _ _ (Nat.le_refl _) (Nat.le_refl _) ⟨by rw [if_neg hc], rfl⟩ dv_fr.rf (dv_roi dJ8_max_10)
/-- newLength(c, 1, c): twice c -/
theorem mt_newLength (l : Launch) (g : dv_P) (q : Nat) (hq : 1 ≤ q) (hq2 : q ≤ 1000000) : dv_M l yJ10_newLength (ws_ yJ10_newLength cJ10_newLength 4 (some .int)) 1 28 0 0 g [.int (nI q), .int 1, .int (nI q)] [] (fun _ => True) [] (fun v h h1 => v = some (.int (nI (2 * q))) ∧ h1 = h) := by
  refine dv_of (by decide +kernel) (dv_cat rfl) ?_
  intro p e s m args below meth c Q cx hnm hK hM hP Ret
  refine dv_iload_n (pc := 0) cx dJ10_newLength_0 rfl rfl ?_
  refine dv_iload_n (pc := 1) cx dJ10_newLength_1 rfl rfl ?_
  refine dv_iload_n (pc := 2) cx dJ10_newLength_2 rfl rfl ?_
  refine dv_cS (rest := [.int (nI q)]) cx hK (mt_max l g 1 (nI q)) q179 q180 q15 q181 (n9 := 2) ⟨by decide, by decide, by decide +kernel⟩ rfl ⟨⟨[], dv_fr.rf⟩, dv_m0, trivial, Nat.le_refl _, Nat.le_refl _⟩ ⟨⟨Nat.le_of_ble_eq_true rfl, Nat.le_of_ble_eq_true rfl⟩, Nat.le_of_ble_eq_true rfl⟩ rfl rfl dJ10_newLength_3 (fun v h1 hS hf => ?_)
  obtain ⟨rfl, rfl⟩ := hS
  have e1 : (if (1 : Int32) < nI q then nI q else 1) = nI q := by
    by_cases hc : (1 : Int32) < nI q
    · rw [if_pos hc]
    · rw [if_neg hc]
      have z : q = 1 := by
        have w : ¬ nI 1 < nI q := hc
        rw [nI_ltI (by omega) (by omega)] at w
        omega
      rw [z]; rfl
  have e2 : nI q + nI q = nI (2 * q) := by rw [nI_add]; congr 1; omega
  refine dv_iadd (v := nI (2 * q)) cx dJ10_newLength_6 (by rw [e1]; exact e2) ?_
  refine dv_istore_n (pc := 7) cx dJ10_newLength_7 rfl rfl ?_
  refine dv_iconst (pc := 8) (v := 0) cx dJ10_newLength_8 (by decide) ?_
  refine dv_iload_n (pc := 9) cx dJ10_newLength_9 rfl rfl ?_
  refine dv_icmp_ge (tgt := 21) cx dJ10_newLength_10 (by decide) (fun hc => ?_) (fun hc => ?_)
  · exact absurd hc (nI_nle (by omega) (by omega))
  refine dv_iload_n (pc := 13) cx dJ10_newLength_13 rfl rfl ?_
  refine dv_ldc (pc := 14) cx q182 dJ10_newLength_14 ?_
  refine dv_icmp_gt (tgt := 21) cx dJ10_newLength_16 (by decide) (fun hc => ?_) (fun hc => ?_)
  · have w : nI 2147483639 < nI (2 * q) := hc
    rw [nI_ltI (by omega) (by omega)] at w
    omega
  refine dv_iload_n (pc := 19) cx dJ10_newLength_19 rfl rfl ?_
  exact Ret _ _ _ _ _ _ _ (Nat.le_refl _) (Nat.le_refl _) ⟨rfl, rfl⟩ dv_fr.rf (dv_roi dJ10_newLength_20)
/-- a longer copy of an array of boxes -/
abbrev dv_Scopy (g : dv_P) (q q2 : Nat) (f : Nat → Option Nat) : Option Value → dv_H → dv_H → Prop := fun v h h1 => ∃ b, v = some (.ref b) ∧ dv_lo g ≤ b ∧ dv_nw b h h1 ∧ h1 b = some (arrV (dv_k g 10) q2 (fun j => va_rf (if j < q then f j else none)))
theorem mt_copyOf_2 (l : Launch) (g : dv_P) (a q q2 : Nat) (f : Nat → Option Nat) (hq : q ≤ q2) (hq2 : q2 ≤ 100000) : dv_M l yJ11_copyOf_2 (ws_ yJ11_copyOf_2 cJ11_copyOf_2 4 (some (.array (.object "java/lang/Object")))) 1 28 1 q2 g [.ref a, .int (nI q2), .ref (dv_mi g)] [] (fun h => h a = some (arrV (dv_k g 10) q (fun j => va_rf (f j))) ∧ ∀ i, i < q → ∀ y, f i = some y → ∃ v, dv_in g h y v) [] (dv_Scopy g q q2 f) := by
  refine dv_of (by decide +kernel) (dv_cat rfl) ?_
  intro p e s m args below meth c Q cx hnm hK hM hP Ret
  obtain ⟨ha, hel⟩ := hP
  refine dv_aload_n (pc := 0) cx dJ11_copyOf_2_0 rfl rfl rfl ?_
  refine dv_ldcM cx q203 hK.2.2.1.2.2.2.2.2.2.2.2.2.2.2.1 dJ11_copyOf_2_1 ?_
  refine dv_acmpSame cx dJ11_copyOf_2_3 13 (by decide) ?_
  refine dv_iload_n (pc := 6) cx dJ11_copyOf_2_6 rfl rfl ?_
  refine dv_anew cx hK 0 rfl q204 hK.2.2.1.2.1 rfl (by omega) (Nat.le_refl _) (by first | omega | (dsimp only [dv_rm]; omega)) dJ11_copyOf_2_7 (fun b h1 hw hlo hsz hb => ?_)
  refine dv_goto (pc := 10) (tgt := 24) cx dJ11_copyOf_2_10 (by decide) ?_
  refine dv_astore_n (pc := 24) cx dJ11_copyOf_2_24 rfl rfl rfl rfl ?_
  refine dv_aload_n (pc := 25) cx dJ11_copyOf_2_25 rfl rfl rfl ?_
  refine dv_iconst (pc := 26) (v := 0) cx dJ11_copyOf_2_26 (by decide) ?_
  refine dv_aload_n (pc := 27) cx dJ11_copyOf_2_27 rfl rfl rfl ?_
  refine dv_iconst (pc := 28) (v := 0) cx dJ11_copyOf_2_28 (by decide) ?_
  have ha1 := hw.kp ha
  refine dv_aload_n (pc := 29) cx dJ11_copyOf_2_29 rfl rfl rfl ?_
  refine dv_alen cx hK 0 rfl ha1 rfl dJ11_copyOf_2_30 ?_
  refine dv_iload_n (pc := 31) cx dJ11_copyOf_2_31 rfl rfl ?_
  refine dv_cS (rest := [.int 0, .ref b, .int 0, .ref a]) cx hK (mt_min l g (nI q) (nI q2)) q205 q206 q15 q207 (n9 := 2) ⟨by decide, by decide, by decide +kernel⟩ rfl ⟨⟨[], hw.fr⟩, dv_m0, trivial, (by first | omega | (dsimp only [dv_rm]; omega)), (by first | omega | (dsimp only [dv_rm]; omega))⟩ ⟨⟨Nat.le_of_ble_eq_true rfl, Nat.le_of_ble_eq_true rfl⟩, Nat.le_of_ble_eq_true rfl⟩ rfl rfl dJ11_copyOf_2_32 (fun v h2 hS hf => ?_)
  obtain ⟨rfl, rfl⟩ := hS
  have e1 : (if nI q2 < nI q then nI q2 else nI q) = nI q := by
    rw [if_neg]
    rw [nI_ltI (by omega) (by omega)]
    omega
  refine dv_copy (sp := 0) (dp := 0) (nn := q) (f := f) (f' := fun _ => none) (n0 := q) (n1 := q2) cx hK q208 ha1 hb hlo rfl rfl e1 (by omega) (by omega) (by omega) (by omega) (fun i hi y hy => ?_) rfl (Nat.le_refl _) (Nat.le_of_ble_eq_true rfl) dJ11_copyOf_2_35 ?_
  · rw [Nat.zero_add] at hy
    obtain ⟨v, hv⟩ := hel i hi y hy
    exact ⟨v, hv.fr (ks := []) hw.fr List.not_mem_nil⟩
  refine dv_aload_n (pc := 38) cx dJ11_copyOf_2_38 rfl rfl rfl ?_
  refine Ret _ _ _ _ _ _ _ (Nat.le_refl _) (by first | omega | (dsimp only [dv_rm]; omega)) ⟨b, rfl, hlo, hw.up, ?_⟩ hw.up.fr (dv_roA dJ11_copyOf_2_39)
  rw [dv_up_self]
  congr 2
  funext j
  by_cases hj : j < q
  · simp [va_cpy, hj]
  · simp [va_cpy, hj]
theorem mt_copyOf (l : Launch) (g : dv_P) (a q q2 : Nat) (f : Nat → Option Nat) (hq : q ≤ q2) (hq2 : q2 ≤ 100000) : dv_M l yJ11_copyOf (ws_ yJ11_copyOf cJ11_copyOf 2 (some (.array (.object "java/lang/Object")))) 2 56 1 q2 g [.ref a, .int (nI q2)] [] (fun h => h a = some (arrV (dv_k g 10) q (fun j => va_rf (f j))) ∧ ∀ i, i < q → ∀ y, f i = some y → ∃ v, dv_in g h y v) [] (dv_Scopy g q q2 f) := by
  refine dv_of (by decide +kernel) (dv_cat rfl) ?_
  intro p e s m args below meth c Q cx hnm hK hM hP Ret
  refine dv_aload_n (pc := 0) cx dJ11_copyOf_0 rfl rfl rfl ?_
  refine dv_iload_n (pc := 1) cx dJ11_copyOf_1 rfl rfl ?_
  refine dv_aload_n (pc := 2) cx dJ11_copyOf_2 rfl rfl rfl ?_
  refine dv_getC cx hK q189 hP.1 rfl (Nat.le_of_ble_eq_true rfl) (Nat.le_of_ble_eq_true rfl) dJ11_copyOf_3 ?_
  refine dv_cS (rest := []) cx hK (mt_copyOf_2 l g a q q2 f hq hq2) q200 q201 q19 q202 (n9 := 3) ⟨by decide, by decide, by decide +kernel⟩ rfl ⟨⟨[], dv_fr.rf⟩, dv_m0, hP, Nat.le_refl _, (by first | omega | (dsimp only [dv_rm]; omega))⟩ ⟨⟨Nat.le_of_ble_eq_true rfl, Nat.le_of_ble_eq_true rfl⟩, Nat.le_of_ble_eq_true rfl⟩ rfl rfl dJ11_copyOf_6 (fun v h2 hS hf => ?_)
  obtain ⟨b, rfl, hS⟩ := hS
  exact Ret _ _ _ _ _ _ _ (Nat.le_refl _) (by first | omega | (dsimp only [dv_rm]; omega)) ⟨b, rfl, hS⟩ hf (dv_roA dJ11_copyOf_9)
end
section
/-! ===== Vector: the raw picture, construction, size, elementAt, push ===== -/
set_option maxRecDepth 100000
/-- the names of the classes by their numbers -/
def dv_nm : Nat → String
  | 0 => "LegacyDrill" | 1 => "java/util/Stack" | 2 => "java/util/Hashtable" | 3 => "java/util/Hashtable$Entry" | 4 => "java/util/Hashtable$Enumerator" | 5 => "java/lang/Integer"
  | 10 => "[Ljava/lang/Object;" | 11 => "[Ljava/util/Hashtable$Entry;" | 12 => "[I" | _ => ""
def dv_nos : List Nat := [0, 1, 2, 3, 4, 5, 10, 11, 12]
theorem dv_K.named {g : dv_P} {s : State} (hK : dv_K g s) : ∀ i ∈ dv_nos, s.vm.findClass (dv_nm i) = some (dv_k g i) := by
  have h1 := hK.2.2.1.1
  have c : ∀ i q, dv_cl[i]? = some q → s.vm.findClass q.1 = some (dv_k g i) := fun i q hq => (h1.1 i q hq).2.1
  intro i hi
  simp only [dv_nos, List.mem_cons, List.not_mem_nil, or_false] at hi
  rcases hi with rfl | rfl | rfl | rfl | rfl | rfl | rfl | rfl | rfl
  · exact c 0 (RX0, TX0, 2) rfl
  · exact c 1 (RJ3, TJ3, 4) rfl
  · exact c 2 (RJ5, TJ5, 8) rfl
  · exact c 3 (RJ12, TJ12, 4) rfl
  · exact c 4 (RJ15, TJ15, 8) rfl
  · exact c 5 (RJ9, TJ9, 1) rfl
  · exact va_nmO (h1.2 0 (dv_k g 10, .object "java/lang/Object") rfl).2 (by decide +kernel)
  · exact va_nmO (h1.2 1 (dv_k g 11, .object "java/util/Hashtable$Entry") rfl).2 (by decide +kernel)
  · have z : s.vm.findClass ("[" ++ (FieldType.int).toString) = some (dv_k g 12) := (h1.2 2 (dv_k g 12, .int) rfl).2
    have e : "[" ++ (FieldType.int).toString = dv_nm 12 := by decide +kernel
    rw [e] at z
    exact z
/-- the class numbers stand for different classes -/
def dv_ap (g : dv_P) : Prop := ∀ i ∈ dv_nos, ∀ j ∈ dv_nos, i ≠ j → dv_k g i ≠ dv_k g j
theorem dv_K.ap {g : dv_P} {s : State} (hK : dv_K g s) : dv_ap g := by
  intro i hi j hj hij e
  have h1 := hK.named i hi
  have h2 := hK.named j hj
  rw [e] at h1
  obtain ⟨k1, a1, b1⟩ := Vm.findClass_spec h1
  obtain ⟨k2, a2, b2⟩ := Vm.findClass_spec h2
  cases a1.symm.trans a2
  have h3 : dv_nm i = dv_nm j := b1.symm.trans b2
  have key : ∀ i ∈ dv_nos, ∀ j ∈ dv_nos, dv_nm i = dv_nm j → i = j := by decide +kernel
  exact hij (key i hi j hj h3)
abbrev dv_kk (g : dv_P) (js : List Nat) : List ClassId := js.map (dv_k g)
theorem dv_nin {g : dv_P} (ap : dv_ap g) (i : Nat) {js : List Nat} (h : (decide (i ∈ dv_nos) && js.all (fun j => decide (j ∈ dv_nos) && decide (i ≠ j))) = true) : dv_k g i ∉ dv_kk g js := by
  simp only [Bool.and_eq_true, decide_eq_true_eq, List.all_eq_true] at h
  intro hm
  obtain ⟨j, hj, e⟩ := List.mem_map.mp hm
  exact ap i h.1 j (h.2 j hj).1 (h.2 j hj).2 e.symm
theorem dv_kin {g : dv_P} {i : Nat} {js : List Nat} (h : i ∈ js) : dv_k g i ∈ dv_kk g js := List.mem_map.mpr ⟨i, h, rfl⟩
theorem dv_ap.ne {g : dv_P} (ap : dv_ap g) (i j : Nat) (h : (decide (i ∈ dv_nos) && decide (j ∈ dv_nos) && decide (i ≠ j)) = true) : dv_k g i ≠ dv_k g j := by
  simp only [Bool.and_eq_true, decide_eq_true_eq] at h
  exact ap i h.1.1 j h.1.2 h.2
theorem dv_far {h : dv_H} {a b : Nat} {x y : Cell} (h1 : h a = some x) (h2 : h b = some y) (hc : x.cls ≠ y.cls) : a ≠ b := by
  intro e
  subst e
  cases h1.symm.trans h2
  exact hc rfl
theorem dv_ob.rc {g : dv_P} {s : State} {h : dv_H} {a ci N : Nat} {fs : List Value} {q : vw_C} (ho : dv_ob g h a ci N fs) (hK : dv_K g s) (hc : dv_cl[ci]? = some q) : dv_rc s h a q.1 := by
  obtain ⟨x, h1, h2, h3, -⟩ := ho
  exact ⟨x, h1, by rw [h3]; rfl, by rw [h2]; exact (hK.2.2.1.1.1 ci q hc).2.1⟩
/-- a vector at a: its array ea of q places, n used, f: what the places hold; modCount w -/
def dv_vr (g : dv_P) (h : dv_H) (a ea q n : Nat) (f : Nat → Option Nat) (w : Int32) : Prop :=
  dv_ob g h a 1 4 [.ref ea, .int (nI n), .int 0, .int w] ∧ h ea = some (arrV (dv_k g 10) q (fun j => va_rf (f j))) ∧ dv_lo g ≤ a ∧ dv_lo g ≤ ea ∧ n ≤ q ∧ ∃ j, j ≤ 8 ∧ q = 10 * 2 ^ j
/-- the places hold boxes of xs -/
def dv_es (g : dv_P) (h : dv_H) (f : Nat → Option Nat) (xs : List Int32) : Prop := ∀ (i : Nat) (x : Int32), xs[i]? = some x → ∃ b, f i = some b ∧ dv_in g h b x
/-- the vector at a holds xs -/
def dv_Ve (g : dv_P) (h : dv_H) (a : Nat) (xs : List Int32) : Prop := ∃ ea q f w, dv_vr g h a ea q xs.length f w ∧ dv_es g h f xs
theorem dv_pow8 {j : Nat} (hj : j ≤ 8) : 2 ^ j ≤ 256 := Nat.pow_le_pow_right (by decide) hj
theorem dv_vr.q {g : dv_P} {h : dv_H} {a ea q n : Nat} {f : Nat → Option Nat} {w : Int32} (v : dv_vr g h a ea q n f w) : q ≤ 2560 := by
  obtain ⟨-, -, -, -, -, j, hj, rfl⟩ := v
  have := dv_pow8 hj
  omega
theorem dv_vr.ne {g : dv_P} {h : dv_H} {a ea q n : Nat} {f : Nat → Option Nat} {w : Int32} (v : dv_vr g h a ea q n f w) (ap : dv_ap g) : ea ≠ a := by
  obtain ⟨⟨x, h1, h2, -⟩, h3, -⟩ := v
  exact dv_far h3 h1 (by rw [h2]; exact ap.ne 10 1 (by decide))
/-- its object has been written -/
theorem dv_vr.st {g : dv_P} {h h1 : dv_H} {a ea q n n' : Nat} {f : Nat → Option Nat} {w w' : Int32} (v : dv_vr g h a ea q n f w) (ap : dv_ap g) (ho : dv_ob g h1 a 1 4 [.ref ea, .int (nI n'), .int 0, .int w']) (s : dv_st a h h1) (hn : n' ≤ q) : dv_vr g h1 a ea q n' f w' := by
  have hne := v.ne ap
  obtain ⟨h1', h2, h3, h4, h5, h6⟩ := v
  exact ⟨ho, by rw [s.ne hne]; exact h2, h3, h4, hn, h6⟩
/-- a place of its array has been written -/
theorem dv_vr.ast {g : dv_P} {h : dv_H} {a ea q n : Nat} {f f' : Nat → Option Nat} {w : Int32} (v : dv_vr g h a ea q n f w) (ap : dv_ap g) : dv_vr g (dv_up h ea (arrV (dv_k g 10) q (fun j => va_rf (f' j)))) a ea q n f' w := by
  have hne := v.ne ap
  obtain ⟨h1, h2, h3, h4, h5, h6⟩ := v
  exact ⟨h1.kept (dv_up_ne (Ne.symm hne)), dv_up_self _ _ _, h3, h4, h5, h6⟩
theorem dv_vr.afr {g : dv_P} {h : dv_H} {a ea q n : Nat} {f : Nat → Option Nat} {w : Int32} (v : dv_vr g h a ea q n f w) (f' : Nat → Value) : dv_fr (dv_lo g) (dv_kk g [1, 10]) h (dv_up h ea (arrV (dv_k g 10) q f')) := by
  obtain ⟨h1, h2, h3, h4, h5, h6⟩ := v
  exact dv_fr.up h2 rfl rfl (dv_kin (i := 10) (by decide)) h4
theorem dv_es.fr {g : dv_P} {h h1 : dv_H} {f : Nat → Option Nat} {xs : List Int32} {ks : List ClassId} (e : dv_es g h f xs) (hf : dv_fr (dv_lo g) ks h h1) (hk : dv_k g 5 ∉ ks) : dv_es g h1 f xs := by
  intro i x hx
  obtain ⟨b, h1, h2⟩ := e i x hx
  exact ⟨b, h1, h2.fr hf hk⟩
theorem dv_es.box {g : dv_P} {h : dv_H} {f : Nat → Option Nat} {xs : List Int32} (e : dv_es g h f xs) : ∀ i, i < xs.length → ∀ y, f i = some y → ∃ v, dv_in g h y v := by
  intro i hi y hy
  obtain ⟨b, h1, h2⟩ := e i xs[i] (List.getElem?_eq_getElem hi)
  rw [hy] at h1
  cases h1
  exact ⟨_, h2⟩
theorem dv_Ve.fr {g : dv_P} {h h1 : dv_H} {a : Nat} {xs : List Int32} {js : List Nat} (v : dv_Ve g h a xs) (ap : dv_ap g) (hf : dv_fr (dv_lo g) (dv_kk g js) h h1) (hj : ([1, 5, 10].all (fun i => js.all (fun j => decide (j ∈ dv_nos) && decide (i ≠ j)))) = true) : dv_Ve g h1 a xs := by
  obtain ⟨ea, q, f, w, ⟨h1, h2, h3, h4, h5, h6⟩, he⟩ := v
  simp only [List.all_cons, List.all_nil, Bool.and_true, Bool.and_eq_true] at hj
  exact ⟨ea, q, f, w, ⟨h1.fr hf (dv_nin ap 1 (by rw [Bool.and_eq_true]; exact ⟨by decide, hj.1⟩)), hf.at h2 (Or.inr (dv_nin ap 10 (by rw [Bool.and_eq_true]; exact ⟨by decide, hj.2.2⟩))), h3, h4, h5, h6⟩, he.fr hf (dv_nin ap 5 (by rw [Bool.and_eq_true]; exact ⟨by decide, hj.2.1⟩))⟩
/-- AbstractCollection(): nothing -/
theorem mt_ac_init (l : Launch) (g : dv_P) (a : Nat) : dv_M l yJ0_init (ws_ yJ0_init cJ0_init 1 none) 1 28 0 0 g [.ref a] [] (fun _ => True) [] (fun v h h1 => v = none ∧ h1 = h) := by
  refine dv_of (by decide +kernel) (dv_cat rfl) ?_
  intro p e s m args below meth c Q cx hnm hK hM hP Ret
  refine dv_aload_n (pc := 0) cx dJ0_init_0 rfl rfl rfl ?_
  refine dv_objInit cx q53 q31 q32 rfl (by decide) (Nat.le_of_ble_eq_true rfl) dJ0_init_1 ?_
  exact Ret _ _ _ _ _ _ _ (Nat.le_refl _) (Nat.le_refl _) ⟨rfl, rfl⟩ dv_fr.rf (dv_rov dJ0_init_4)
/-- AbstractList(): modCount = 0 -/
theorem mt_al_init (l : Launch) (g : dv_P) (a : Nat) (f0 f1 f2 f3 : Value) (hlo : dv_lo g ≤ a) : dv_M l yJ1_init (ws_ yJ1_init cJ1_init 1 none) 2 56 0 0 g [.ref a] [] (fun h => dv_ob g h a 1 4 [f0, f1, f2, f3]) (dv_kk g [1, 10]) (fun v h h1 => v = none ∧ dv_ob g h1 a 1 4 [f0, f1, f2, .int 0] ∧ dv_st a h h1) := by
  refine dv_of (by decide +kernel) (dv_cat rfl) ?_
  intro p e s m args below meth c Q cx hnm hK hM hP Ret
  refine dv_aload_n (pc := 0) cx dJ1_init_0 rfl rfl rfl ?_
  refine dv_cI (rest := []) (av := []) cx hK (mt_ac_init l g a) q50 q51 q7 q52 rfl (n9 := 0) ⟨by decide, by decide, by decide +kernel⟩ rfl ⟨⟨[], dv_fr.rf⟩, dv_m0, trivial, Nat.le_refl _, Nat.le_refl _⟩ ⟨⟨Nat.le_of_ble_eq_true rfl, Nat.le_of_ble_eq_true rfl⟩, Nat.le_of_ble_eq_true rfl⟩ rfl rfl dJ1_init_1 (fun v h1 hS hf => ?_)
  obtain ⟨rfl, rfl⟩ := hS
  refine dv_aload_n (pc := 4) cx dJ1_init_4 rfl rfl rfl ?_
  refine dv_iconst (pc := 5) (v := 0) cx dJ1_init_5 (by decide) ?_
  refine pf_59 cx hK hP hlo rfl rfl dJ1_init_6 (fun h1 ho hst => ?_)
  exact Ret _ _ _ _ _ _ _ (Nat.le_refl _) (Nat.le_refl _) ⟨rfl, ho, hst⟩ (hP.st hst (dv_kin (by decide)) hlo) (dv_rov dJ1_init_9)
abbrev dv_Sv0 (g : dv_P) (a : Nat) : Option Value → dv_H → dv_H → Prop := fun v h h1 => v = none ∧ dv_Ve g h1 a [] ∧ ∀ q x, q ≠ a → h q = some x → h1 q = some x
abbrev dv_v0 : List Value := [.null, .int 0, .int 0, .int 0]
theorem mt_v_init3 (l : Launch) (g : dv_P) (a : Nat) (hlo : dv_lo g ≤ a) : dv_M l yJ2_init_3 (ws_ yJ2_init_3 cJ2_init_3 3 none) 3 84 1 10 g [.ref a, .int 10, .int 0] [] (fun h => dv_ob g h a 1 4 dv_v0) (dv_kk g [1, 10]) (dv_Sv0 g a) := by
  refine dv_of (by decide +kernel) (dv_cat rfl) ?_
  intro p e s m args below meth c Q cx hnm hK hM hP Ret
  have ap := hK.ap
  refine dv_aload_n (pc := 0) cx dJ2_init_3_0 rfl rfl rfl ?_
  refine dv_cI (rest := []) (av := []) cx hK (mt_al_init l g a _ _ _ _ hlo) q47 q48 q8 q49 rfl (n9 := 0) ⟨by decide, by decide, by decide +kernel⟩ rfl ⟨⟨[], dv_fr.rf⟩, dv_m0, hP, Nat.zero_le _, Nat.zero_le _⟩ ⟨⟨Nat.le_of_ble_eq_true rfl, Nat.le_of_ble_eq_true rfl⟩, Nat.le_of_ble_eq_true rfl⟩ rfl rfl dJ2_init_3_1 (fun v h1 hS hf => ?_)
  obtain ⟨rfl, ho1, hst1⟩ := hS
  refine dv_iload_n (pc := 4) cx dJ2_init_3_4 rfl rfl ?_
  refine dv_if_ge (tgt := 35) cx dJ2_init_3_5 (by decide) (fun _ => ?_) (fun hc => absurd (by decide) hc)
  refine dv_aload_n (pc := 35) cx dJ2_init_3_35 rfl rfl rfl ?_
  refine dv_iload_n (pc := 36) cx dJ2_init_3_36 rfl rfl ?_
  refine dv_anew (n0 := 10) cx hK 0 rfl q54 hK.2.2.1.2.1 rfl (by decide) (Nat.le_refl _) (Nat.le_refl _) dJ2_init_3_37 (fun b h2 hw hlb hsz hb => ?_)
  have ho2 : dv_ob g h2 a 1 4 [.null, .int 0, .int 0, .int 0] := by
    obtain ⟨x, z1, z2⟩ := ho1
    exact ⟨x, hw.kp z1, z2⟩
  refine pf_56 cx hK ho2 hlo rfl rfl dJ2_init_3_40 (fun h3 ho3 hst3 => ?_)
  refine dv_aload_n (pc := 43) cx dJ2_init_3_43 rfl rfl rfl ?_
  refine dv_iload_n (pc := 44) cx dJ2_init_3_44 rfl rfl ?_
  refine pf_58 cx hK ho3 hlo rfl rfl dJ2_init_3_45 (fun h4 ho4 hst4 => ?_)
  have hba : b ≠ a := by
    obtain ⟨x, z1, z2, -⟩ := ho2
    exact dv_far hb z1 (by rw [z2]; exact ap.ne 10 1 (by decide))
  refine Ret _ _ _ _ _ _ _ (Nat.le_refl _) (Nat.le_refl _) ⟨rfl, ⟨b, 10, fun _ => none, 0, ⟨ho4, ?_, hlo, hlb, Nat.zero_le _, 0, by decide, rfl⟩, fun i x hx => by cases hx⟩, ?_⟩ ?_ (dv_rov dJ2_init_3_48)
  · rw [hst4.ne hba, hst3.ne hba]; exact hb
  · intro q x hq hx
    rw [hst4.ne hq, hst3.ne hq]
    exact hw.kp (by rw [hst1.ne hq]; exact hx)
  · exact ((hf.trans hw.fr).trans (ho2.st hst3 (dv_kin (by decide)) hlo)).trans (ho3.st hst4 (dv_kin (by decide)) hlo)
theorem mt_v_init2 (l : Launch) (g : dv_P) (a : Nat) (hlo : dv_lo g ≤ a) : dv_M l yJ2_init_2 (ws_ yJ2_init_2 cJ2_init_2 2 none) 4 112 1 10 g [.ref a, .int 10] [] (fun h => dv_ob g h a 1 4 dv_v0) (dv_kk g [1, 10]) (dv_Sv0 g a) := by
  refine dv_of (by decide +kernel) (dv_cat rfl) ?_
  intro p e s m args below meth c Q cx hnm hK hM hP Ret
  refine dv_aload_n (pc := 0) cx dJ2_init_2_0 rfl rfl rfl ?_
  refine dv_iload_n (pc := 1) cx dJ2_init_2_1 rfl rfl ?_
  refine dv_iconst (pc := 2) (v := 0) cx dJ2_init_2_2 (by decide) ?_
  refine dv_cI (rest := []) (av := [.int 10, .int 0]) cx hK (mt_v_init3 l g a hlo) q44 q45 q9 q46 rfl (n9 := 2) ⟨by decide, by decide, by decide +kernel⟩ rfl ⟨⟨[], dv_fr.rf⟩, dv_m0, hP, Nat.le_refl _, Nat.le_refl _⟩ ⟨⟨Nat.le_of_ble_eq_true rfl, Nat.le_of_ble_eq_true rfl⟩, Nat.le_of_ble_eq_true rfl⟩ rfl rfl dJ2_init_2_3 (fun v h1 hS hf => ?_)
  obtain ⟨rfl, hS⟩ := hS
  exact Ret _ _ _ _ _ _ _ (Nat.le_refl _) (Nat.le_refl _) ⟨rfl, hS⟩ hf (dv_rov dJ2_init_2_6)
theorem mt_v_init (l : Launch) (g : dv_P) (a : Nat) (hlo : dv_lo g ≤ a) : dv_M l yJ2_init (ws_ yJ2_init cJ2_init 1 none) 5 140 1 10 g [.ref a] [] (fun h => dv_ob g h a 1 4 dv_v0) (dv_kk g [1, 10]) (dv_Sv0 g a) := by
  refine dv_of (by decide +kernel) (dv_cat rfl) ?_
  intro p e s m args below meth c Q cx hnm hK hM hP Ret
  refine dv_aload_n (pc := 0) cx dJ2_init_0 rfl rfl rfl ?_
  refine dv_bipush (pc := 1) (v := 10) cx dJ2_init_1 (by decide) ?_
  refine dv_cI (rest := []) (av := [.int 10]) cx hK (mt_v_init2 l g a hlo) q41 q42 q9 q43 rfl (n9 := 1) ⟨by decide, by decide, by decide +kernel⟩ rfl ⟨⟨[], dv_fr.rf⟩, dv_m0, hP, Nat.le_refl _, Nat.le_refl _⟩ ⟨⟨Nat.le_of_ble_eq_true rfl, Nat.le_of_ble_eq_true rfl⟩, Nat.le_of_ble_eq_true rfl⟩ rfl rfl dJ2_init_3 (fun v h1 hS hf => ?_)
  obtain ⟨rfl, hS⟩ := hS
  exact Ret _ _ _ _ _ _ _ (Nat.le_refl _) (Nat.le_refl _) ⟨rfl, hS⟩ hf (dv_rov dJ2_init_6)
/-- Stack(): empty -/
theorem mt_st_init (l : Launch) (g : dv_P) (a : Nat) (hlo : dv_lo g ≤ a) : dv_M l yJ3_init (ws_ yJ3_init cJ3_init 1 none) 6 168 1 10 g [.ref a] [] (fun h => dv_ob g h a 1 4 dv_v0) (dv_kk g [1, 10]) (dv_Sv0 g a) := by
  refine dv_of (by decide +kernel) (dv_cat rfl) ?_
  intro p e s m args below meth c Q cx hnm hK hM hP Ret
  refine dv_aload_n (pc := 0) cx dJ3_init_0 rfl rfl rfl ?_
  refine dv_cI (rest := []) (av := []) cx hK (mt_v_init l g a hlo) q38 q39 q9 q40 rfl (n9 := 0) ⟨by decide, by decide, by decide +kernel⟩ rfl ⟨⟨[], dv_fr.rf⟩, dv_m0, hP, Nat.le_refl _, Nat.le_refl _⟩ ⟨⟨Nat.le_of_ble_eq_true rfl, Nat.le_of_ble_eq_true rfl⟩, Nat.le_of_ble_eq_true rfl⟩ rfl rfl dJ3_init_1 (fun v h1 hS hf => ?_)
  obtain ⟨rfl, hS⟩ := hS
  exact Ret _ _ _ _ _ _ _ (Nat.le_refl _) (Nat.le_refl _) ⟨rfl, hS⟩ hf (dv_rov dJ3_init_4)
/-- size() -/
theorem mt_v_size (l : Launch) (g : dv_P) (a : Nat) (xs : List Int32) (hlo : dv_lo g ≤ a) : dv_M l yJ2_size (wsY_ yJ2_size cJ2_size 1 (some .int)) 0 0 0 0 g [.ref a] [a] (fun h => dv_Ve g h a xs) [] (fun v h h1 => v = some (.int (nI xs.length)) ∧ h1 = h) := by
  refine dv_ofS (by decide +kernel) (dv_cat rfl) q228 List.mem_cons_self hlo ?_
  intro p e s m args below meth c Q cx hnm hK hM hP Ret
  obtain ⟨ea, q, f, w, hv, he⟩ := hP
  refine dv_aload_n (pc := 0) cx dJ2_size_0 rfl rfl rfl ?_
  refine gf_57 cx hK hv.1 dJ2_size_1 ?_
  exact Ret _ _ _ _ _ _ _ (Nat.le_refl _) (Nat.le_refl _) ⟨rfl, rfl⟩ dv_fr.rf (dv_roi dJ2_size_4)
abbrev dv_Sat (g : dv_P) (x : Int32) : Option Value → dv_H → dv_H → Prop := fun v h h1 => ∃ b, v = some (.ref b) ∧ h1 = h ∧ dv_in g h b x
/-- elementData(i): the box at i -/
theorem mt_v_data (l : Launch) (g : dv_P) (a : Nat) (xs : List Int32) (i : Nat) (x : Int32) (hx : xs[i]? = some x) : dv_M l yJ2_elementData (ws_ yJ2_elementData cJ2_elementData 2 (some (.object "java/lang/Object"))) 0 0 0 0 g [.ref a, .int (nI i)] [] (fun h => dv_Ve g h a xs) [] (dv_Sat g x) := by
  refine dv_of (by decide +kernel) (dv_cat rfl) ?_
  intro p e s m args below meth c Q cx hnm hK hM hP Ret
  obtain ⟨ea, q, f, w, hv, he⟩ := hP
  have hil : i < xs.length := (List.getElem?_eq_some_iff.mp hx).1
  have hnq := hv.2.2.2.2.1
  have hq := hv.q
  obtain ⟨b, hb1, hb2⟩ := he i x hx
  refine dv_aload_n (pc := 0) cx dJ2_elementData_0 rfl rfl rfl ?_
  refine gf_56 cx hK hv.1 dJ2_elementData_1 ?_
  refine dv_iload_n (pc := 4) cx dJ2_elementData_4 rfl rfl ?_
  refine dv_aald (i := i) (v := .ref b) cx hK 0 rfl hv.2.1 rfl (by omega) (by omega) (by rw [hb1]; rfl) dJ2_elementData_5 ?_
  exact Ret _ _ _ _ _ _ _ (Nat.le_refl _) (Nat.le_refl _) ⟨b, rfl, rfl, hb2⟩ dv_fr.rf (dv_roa dJ2_elementData_6)
/-- elementAt(i) -/
theorem mt_v_at (l : Launch) (g : dv_P) (a : Nat) (xs : List Int32) (i : Nat) (x : Int32) (hx : xs[i]? = some x) (hlo : dv_lo g ≤ a) : dv_M l yJ2_elementAt (wsY_ yJ2_elementAt cJ2_elementAt 2 (some (.object "java/lang/Object"))) 1 28 0 0 g [.ref a, .int (nI i)] [a] (fun h => dv_Ve g h a xs) [] (dv_Sat g x) := by
  refine dv_ofS (by decide +kernel) (dv_cat rfl) q238 List.mem_cons_self hlo ?_
  intro p e s m args below meth c Q cx hnm hK hM hP Ret
  have hP' := hP
  obtain ⟨ea, q, f, w, hv, he⟩ := hP'
  have hil : i < xs.length := (List.getElem?_eq_some_iff.mp hx).1
  have hnq := hv.2.2.2.2.1
  have hq := hv.q
  refine dv_iload_n (pc := 0) cx dJ2_elementAt_0 rfl rfl ?_
  refine dv_aload_n (pc := 1) cx dJ2_elementAt_1 rfl rfl rfl ?_
  refine gf_57 cx hK hv.1 dJ2_elementAt_2 ?_
  refine dv_icmp_lt (tgt := 42) cx dJ2_elementAt_5 (by decide) (fun _ => ?_) (fun hc => absurd (nI_lt hil (by omega)) hc)
  refine dv_aload_n (pc := 42) cx dJ2_elementAt_42 rfl rfl rfl ?_
  refine dv_iload_n (pc := 43) cx dJ2_elementAt_43 rfl rfl ?_
  refine dv_cU (C := RJ3) (x := yJ2_elementData) (rest := []) (av := [.int (nI i)]) cx hK (mt_v_data l g a xs i x hx) rfl q240 q242 q241 q243 q9 q244 (n9 := 1) ⟨by decide, by decide, by decide +kernel⟩ rfl (hv.1.rc hK rfl) ⟨⟨[], dv_fr.rf⟩, dv_m0, hP, Nat.le_refl _, Nat.le_refl _⟩ ⟨⟨Nat.le_of_ble_eq_true rfl, Nat.le_of_ble_eq_true rfl⟩, Nat.le_of_ble_eq_true rfl⟩ rfl rfl dJ2_elementAt_44 (fun v h1 hS hf => ?_)
  obtain ⟨b, rfl, rfl, hb⟩ := hS
  exact Ret _ _ _ _ _ _ _ (Nat.le_refl _) (Nat.le_refl _) ⟨b, rfl, rfl, hb⟩ dv_fr.rf (dv_roa dJ2_elementAt_47)
/-- grow: a full array is doubled -/
abbrev dv_Sgr (g : dv_P) (a q : Nat) (f : Nat → Option Nat) (w : Int32) : Option Value → dv_H → dv_H → Prop := fun v h h1 => ∃ b, v = some (.ref b) ∧ dv_vr g h1 a b (2 * q) q (fun j => if j < q then f j else none) w
theorem mt_v_grow2 (l : Launch) (g : dv_P) (a ea q : Nat) (f : Nat → Option Nat) (w : Int32) (hq : q ≤ 1280) : dv_M l yJ2_grow_2 (ws_ yJ2_grow_2 cJ2_grow_2 4 (some (.array (.object "java/lang/Object")))) 3 84 1 2560 g [.ref a, .int (nI (q + 1))] [] (fun h => dv_vr g h a ea q q f w ∧ ∀ i, i < q → ∀ y, f i = some y → ∃ v, dv_in g h y v) (dv_kk g [1, 10]) (dv_Sgr g a q f w) := by
  refine dv_of (by decide +kernel) (dv_cat rfl) ?_
  intro p e s m args below meth c Q cx hnm hK hM hP Ret
  have ap := hK.ap
  obtain ⟨hv, he⟩ := hP
  obtain ⟨j, hj, hqj⟩ := hv.2.2.2.2.2
  have hj7 : j ≤ 7 := by
    rcases Nat.lt_or_ge j 8 with z | z
    · omega
    · have : j = 8 := by omega
      rw [this] at hqj
      omega
  have hq1 : 1 ≤ q := by rw [hqj]; have := Nat.one_le_two_pow (n := j); omega
  refine dv_aload_n (pc := 0) cx dJ2_grow_2_0 rfl rfl rfl ?_
  refine gf_56 cx hK hv.1 dJ2_grow_2_1 ?_
  refine dv_alen (v := nI q) cx hK 0 rfl hv.2.1 rfl dJ2_grow_2_4 ?_
  refine dv_istore_n (pc := 5) cx dJ2_grow_2_5 rfl rfl ?_
  refine dv_iload_n (pc := 6) cx dJ2_grow_2_6 rfl rfl ?_
  refine dv_iload_n (pc := 7) cx dJ2_grow_2_7 rfl rfl ?_
  refine dv_iload_n (pc := 8) cx dJ2_grow_2_8 rfl rfl ?_
  refine dv_isub (v := 1) cx dJ2_grow_2_9 (by rw [pk_sub (by omega), show q + 1 - q = 1 by omega]; rfl) ?_
  refine dv_aload_n (pc := 10) cx dJ2_grow_2_10 rfl rfl rfl ?_
  refine gf_58 cx hK hv.1 dJ2_grow_2_11 ?_
  refine dv_if_le (tgt := 24) cx dJ2_grow_2_14 (by decide) (fun _ => ?_) (fun hc => absurd (by decide) hc)
  refine dv_iload_n (pc := 24) cx dJ2_grow_2_24 rfl rfl ?_
  refine dv_cS (rest := []) cx hK (mt_newLength l g q hq1 (by omega)) q176 q177 q18 q178 (n9 := 3) ⟨by decide, by decide, by decide +kernel⟩ rfl ⟨⟨[], dv_fr.rf⟩, dv_m0, trivial, Nat.zero_le _, Nat.zero_le _⟩ ⟨⟨Nat.le_of_ble_eq_true rfl, Nat.le_of_ble_eq_true rfl⟩, Nat.le_of_ble_eq_true rfl⟩ rfl rfl dJ2_grow_2_25 (fun v h1 hS hf => ?_)
  obtain ⟨rfl, rfl⟩ := hS
  refine dv_istore_n (pc := 28) cx dJ2_grow_2_28 rfl rfl ?_
  refine dv_aload_n (pc := 29) cx dJ2_grow_2_29 rfl rfl rfl ?_
  refine dv_aload_n (pc := 30) cx dJ2_grow_2_30 rfl rfl rfl ?_
  refine gf_56 cx hK hv.1 dJ2_grow_2_31 ?_
  refine dv_iload_n (pc := 34) cx dJ2_grow_2_34 rfl rfl ?_
  refine dv_cS (rest := [.ref a]) cx hK (mt_copyOf l g ea q (2 * q) f (by omega) (by omega)) q186 q187 q19 q188 (n9 := 2) ⟨by decide, by decide, by decide +kernel⟩ rfl ⟨⟨[], dv_fr.rf⟩, dv_m0, ⟨hv.2.1, he⟩, Nat.le_refl _, (by first | omega | (dsimp only [dv_rm]; omega))⟩ ⟨⟨Nat.le_of_ble_eq_true rfl, Nat.le_of_ble_eq_true rfl⟩, Nat.le_of_ble_eq_true rfl⟩ rfl rfl dJ2_grow_2_35 (fun v h2 hS hf => ?_)
  obtain ⟨b, rfl, hlb, hw, hb⟩ := hS
  refine dv_dup_x1 (pc := 38) cx dJ2_grow_2_38 rfl rfl ?_
  have ho2 : dv_ob g h2 a 1 4 [.ref ea, .int (nI q), .int 0, .int w] := by
    obtain ⟨x, z1, z2⟩ := hv.1
    exact ⟨x, hw.kp z1, z2⟩
  refine pf_56 cx hK ho2 hv.2.2.1 rfl rfl dJ2_grow_2_39 (fun h3 ho3 hst3 => ?_)
  have hba : b ≠ a := by
    obtain ⟨x, z1, z2, -⟩ := ho2
    exact dv_far hb z1 (by rw [z2]; exact ap.ne 10 1 (by decide))
  refine Ret _ _ _ _ _ _ _ (Nat.le_refl _) (by first | omega | (dsimp only [dv_rm]; omega)) ⟨b, rfl, ho3, by rw [hst3.ne hba]; exact hb, hv.2.2.1, hlb, by omega, j + 1, by omega, by rw [hqj, Nat.pow_succ]; omega⟩ ?_ (dv_roA dJ2_grow_2_42)
  exact hf.nil.trans (ho2.st hst3 (dv_kin (by decide)) hv.2.2.1)
theorem mt_v_grow (l : Launch) (g : dv_P) (a ea q : Nat) (f : Nat → Option Nat) (w : Int32) (hq : q ≤ 1280) : dv_M l yJ2_grow (ws_ yJ2_grow cJ2_grow 1 (some (.array (.object "java/lang/Object")))) 4 112 1 2560 g [.ref a] [] (fun h => dv_vr g h a ea q q f w ∧ ∀ i, i < q → ∀ y, f i = some y → ∃ v, dv_in g h y v) (dv_kk g [1, 10]) (dv_Sgr g a q f w) := by
  refine dv_of (by decide +kernel) (dv_cat rfl) ?_
  intro p e s m args below meth c Q cx hnm hK hM hP Ret
  refine dv_aload_n (pc := 0) cx dJ2_grow_0 rfl rfl rfl ?_
  refine dv_aload_n (pc := 1) cx dJ2_grow_1 rfl rfl rfl ?_
  refine gf_57 cx hK hP.1.1 dJ2_grow_2 ?_
  refine dv_iconst (pc := 5) (v := 1) cx dJ2_grow_5 (by decide) ?_
  refine dv_iadd (v := nI (q + 1)) cx dJ2_grow_6 (nI_1 q) ?_
  refine dv_cP (C := RJ3) (rest := []) (av := [.int (nI (q + 1))]) cx hK (mt_v_grow2 l g a ea q f w hq) hK.2.2.1.2.2.2.2.2.2.2.2.2.2.2.2.2.2 q166 q172 q522 q174 q9 q175 (n9 := 1) ⟨by decide, by decide, by decide +kernel⟩ rfl (hP.1.1.rc hK rfl) ⟨⟨[], dv_fr.rf⟩, dv_m0, hP, Nat.le_refl _, Nat.le_refl _⟩ ⟨⟨Nat.le_of_ble_eq_true rfl, Nat.le_of_ble_eq_true rfl⟩, Nat.le_of_ble_eq_true rfl⟩ rfl rfl dJ2_grow_7 (fun v h1 hS hf => ?_)
  obtain ⟨b, rfl, hS⟩ := hS
  exact Ret _ _ _ _ _ _ _ (Nat.le_refl _) (Nat.le_refl _) ⟨b, rfl, hS⟩ hf (dv_roA dJ2_grow_10)
end
section
/-! ===== Vector: add, insert, remove; Stack.push ===== -/
set_option maxRecDepth 100000
theorem dv_upn {α : Type} {f : Nat → α} {k j : Nat} {v : α} (h : j ≠ k) : va_up f k v j = f j := by simp [va_up, h]
theorem dv_ups {α : Type} {f : Nat → α} {k : Nat} {v : α} : va_up f k v k = v := by simp [va_up]
theorem dv_updrf (f : Nat → Option Nat) (i : Nat) (o : Option Nat) : updV (fun j => va_rf (f j)) i (va_rf o) = fun j => va_rf (va_up f i o j) := by
  funext j
  by_cases hj : j = i <;> simp [updV, va_up, hj]
section DVB
variable {g : dv_P} {p : Program} {l : Launch} {e : Env} {R : Room} {s : State} {m : MethodId} {args : Array Value} {below : List Frame} {meth : Method} {c : Code} {h : dv_H} {k n : Nat} {Q : State → Prop}
variable {lk : Option Addr} {mr : Nat} {pc nL : Nat} {ls : List Slot} {st : List Value} {cc : ByteArray} {own : String}
/-- a box into an Object[] -/
theorem dv_aastB (cx : CallFix p m c cc nL s args lw_all own) (hK : dv_K g s) {a n0 i w : Nat} {f : Nat → Option Nat} {x z : Int32} (ha : h a = some (arrV (dv_k g 10) n0 (fun j => va_rf (f j)))) (hlo : dv_lo g ≤ a) (hx' : x = nI i) (hi : i < n0) (hn : n0 < 2 ^ 31) (hw : dv_in g h w z) (hd : decode cc pc = .ok (.aastore, 1))
    (kk : dv_V (dv_lo g) p l e R s m args below meth c (dv_up h a (arrV (dv_k g 10) n0 (fun j => va_rf (va_up f i (some w) j)))) k n Q (dv_G lk mr m (pc + 1) ls st)) : dv_V (dv_lo g) p l e R s m args below meth c h k n Q (dv_G lk mr m pc ls (.ref w :: .int x :: .ref a :: st)) := by
  obtain ⟨y, w1, w2, w3, -⟩ := hw
  refine dv_aast (C := RJ9) (E := "java/lang/Object") cx hK 0 rfl ha hlo hx' hi hn w1 w3 (by rw [w2]; exact (hK.2.2.1.1.1 5 _ rfl).2.1) (vb_asgC hK.2.2.1.2.2.2.1) hd ?_
  have e := dv_updrf f i (some w)
  rw [show Value.ref w = va_rf (some w) from rfl, e]
  exact kk
theorem dv_aastBN (cx : CallFix p m c cc nL s args lw_all own) (hK : dv_K g s) {a n0 i : Nat} {f : Nat → Option Nat} {x : Int32} (ha : h a = some (arrV (dv_k g 10) n0 (fun j => va_rf (f j)))) (hlo : dv_lo g ≤ a) (hx' : x = nI i) (hi : i < n0) (hn : n0 < 2 ^ 31) (hd : decode cc pc = .ok (.aastore, 1))
    (kk : dv_V (dv_lo g) p l e R s m args below meth c (dv_up h a (arrV (dv_k g 10) n0 (fun j => va_rf (va_up f i none j)))) k n Q (dv_G lk mr m (pc + 1) ls st)) : dv_V (dv_lo g) p l e R s m args below meth c h k n Q (dv_G lk mr m pc ls (.null :: .int x :: .ref a :: st)) := by
  refine dv_aastN (E := "java/lang/Object") cx hK 0 rfl ha hlo hx' hi hn hd ?_
  have e := dv_updrf f i none
  rw [show Value.null = va_rf none from rfl, e]
  exact kk
end DVB
theorem dv_cap {n q : Nat} (hn : n ≤ 1700) (hnq : n = q) (hj : ∃ j, j ≤ 8 ∧ q = 10 * 2 ^ j) : q ≤ 1280 := by
  obtain ⟨j, hj, e⟩ := hj
  have key : ∀ j, j ≤ 8 → 10 * 2 ^ j ≤ 1700 → 10 * 2 ^ j ≤ 1280 := by decide
  rw [e]
  exact key j hj (by omega)
/-- grown: what the places held they hold -/
theorem dv_es.grow {g : dv_P} {h : dv_H} {f : Nat → Option Nat} {xs : List Int32} {q : Nat} (e : dv_es g h f xs) (hq : xs.length ≤ q) : dv_es g h (fun j => if j < q then f j else none) xs := by
  intro i x hx
  obtain ⟨b, h1, h2⟩ := e i x hx
  have hi : i < xs.length := (List.getElem?_eq_some_iff.mp hx).1
  exact ⟨b, by show (if i < q then f i else none) = some b; rw [if_pos (by omega)]; exact h1, h2⟩
theorem dv_es.snoc {g : dv_P} {h : dv_H} {f : Nat → Option Nat} {xs : List Int32} {b : Nat} {x : Int32} (e : dv_es g h f xs) (hb : dv_in g h b x) : dv_es g h (va_up f xs.length (some b)) (xs ++ [x]) := by
  intro i z hz
  by_cases hi : i < xs.length
  · rw [List.getElem?_append_left hi] at hz
    obtain ⟨c, h1, h2⟩ := e i z hz
    exact ⟨c, by rw [dv_upn (by omega)]; exact h1, h2⟩
  · have hl : i < (xs ++ [x]).length := (List.getElem?_eq_some_iff.mp hz).1
    have hi2 : i = xs.length := by simp at hl; omega
    subst hi2
    rw [List.getElem?_append_right (Nat.le_refl _), Nat.sub_self] at hz
    cases hz
    exact ⟨b, dv_ups, hb⟩
/-- add(e, data, n): at the end, grown if full -/
theorem mt_v_add (l : Launch) (g : dv_P) (a b ea q : Nat) (f : Nat → Option Nat) (w : Int32) (xs : List Int32) (x : Int32) (hn : xs.length ≤ 1700) : dv_M l yJ2_add (ws_ yJ2_add cJ2_add 4 none) 5 140 1 2560 g [.ref a, .ref b, .ref ea, .int (nI xs.length)] [] (fun h => dv_vr g h a ea q xs.length f w ∧ dv_es g h f xs ∧ dv_in g h b x) (dv_kk g [1, 10]) (fun v h h1 => v = none ∧ dv_Ve g h1 a (xs ++ [x])) := by
  refine dv_of (by decide +kernel) (dv_cat rfl) ?_
  intro p e s m args below meth c Q cx hnm hK hM hP Ret
  have ap := hK.ap
  obtain ⟨hv, he, hb⟩ := hP
  have tail : ∀ (h : dv_H) (ea q k n : Nat) (f : Nat → Option Nat) (w : Int32), k ≤ 1 → n ≤ 2560 → dv_fr (dv_lo g) (dv_kk g [1, 10]) (dv_ct s.heap) h → dv_vr g h a ea q xs.length f w → dv_es g h f xs → dv_in g h b x → xs.length < q →
      dv_V (dv_lo g) p l e (dv_rm 5 140 1 2560) s m args below meth c h k n Q (dv_G none 0 m 11 [.val (.ref a), .val (.ref b), .val (.ref ea), .val (.int (nI xs.length))] []) := by
    intro h ea q k n f w hk hn' hF hv he hb hlt
    have hq := hv.q
    refine dv_aload_n (pc := 11) cx dJ2_add_11 rfl rfl rfl ?_
    refine dv_iload_n (pc := 12) cx dJ2_add_12 rfl rfl ?_
    refine dv_aload_n (pc := 13) cx dJ2_add_13 rfl rfl rfl ?_
    refine dv_aastB (i := xs.length) cx hK hv.2.1 hv.2.2.2.1 rfl hlt (by omega) hb dJ2_add_14 ?_
    have hf1 := hv.afr (fun j => va_rf (va_up f xs.length (some b) j))
    have hv1 := hv.ast (f' := va_up f xs.length (some b)) ap
    have he1 := (he.snoc hb).fr hf1 (dv_nin ap 5 (by decide))
    refine dv_aload_n (pc := 15) cx dJ2_add_15 rfl rfl rfl ?_
    refine dv_iload_n (pc := 16) cx dJ2_add_16 rfl rfl ?_
    refine dv_iconst (pc := 17) (v := 1) cx dJ2_add_17 (by decide) ?_
    refine dv_iadd (v := nI (xs.length + 1)) cx dJ2_add_18 (nI_1 _) ?_
    refine pf_57 cx hK hv1.1 hv1.2.2.1 rfl rfl dJ2_add_19 (fun h2 ho2 hst2 => ?_)
    have hf2 := hv1.1.st hst2 (ks := dv_kk g [1, 10]) (dv_kin (by decide)) hv1.2.2.1
    refine Ret _ _ _ _ _ _ _ hk hn' ⟨rfl, ea, q, _, w, ?_, he1.fr hf2 (dv_nin ap 5 (by decide))⟩ ((hF.trans hf1).trans hf2) (dv_rov dJ2_add_22)
    rw [List.length_append]
    exact hv1.st ap ho2 hst2 hlt
  refine dv_iload_n (pc := 0) cx dJ2_add_0 rfl rfl ?_
  refine dv_aload_n (pc := 1) cx dJ2_add_1 rfl rfl rfl ?_
  refine dv_alen (v := nI q) cx hK 0 rfl hv.2.1 rfl dJ2_add_2 ?_
  have hq := hv.q
  have hnq := hv.2.2.2.2.1
  refine dv_icmp_ne (tgt := 11) cx dJ2_add_3 (by decide) (fun hc => ?_) (fun hc => ?_)
  · refine tail _ ea q _ _ f w (Nat.zero_le _) (Nat.zero_le _) dv_fr.rf hv he hb ?_
    rcases Nat.lt_or_ge xs.length q with z | z
    · exact z
    · exact absurd (by rw [show xs.length = q by omega]) hc
  · have e1 : xs.length = q := (nI_eq (by omega) (by omega)).mp hc
    have hv' : dv_vr g (dv_ct s.heap) a ea q q f w := by rw [e1] at hv; exact hv
    have hq2 := dv_cap hn e1 hv.2.2.2.2.2
    refine dv_aload_n (pc := 6) cx dJ2_add_6 rfl rfl rfl ?_
    refine dv_cP (C := RJ3) (rest := []) (av := []) cx hK (mt_v_grow l g a ea q f w hq2) hK.2.2.1.2.2.2.2.2.2.2.2.2.2.2.2.2.1 q166 q168 q521 q170 q9 q171 (n9 := 0) ⟨by decide, by decide, by decide +kernel⟩ rfl (hv.1.rc hK rfl) ⟨⟨[], dv_fr.rf⟩, dv_m0, ⟨hv', by rw [← e1]; exact he.box⟩, Nat.le_refl _, Nat.le_refl _⟩ ⟨⟨Nat.le_of_ble_eq_true rfl, Nat.le_of_ble_eq_true rfl⟩, Nat.le_of_ble_eq_true rfl⟩ rfl rfl dJ2_add_7 (fun v h1 hS hf => ?_)
    obtain ⟨ea', rfl, hv1⟩ := hS
    refine dv_astore_n (pc := 10) cx dJ2_add_10 rfl rfl rfl rfl ?_
    refine tail h1 ea' (2 * q) _ _ _ w (Nat.le_refl _) (Nat.le_refl _) hf (by rw [e1]; exact hv1) ((he.grow (by omega)).fr hf (dv_nin ap 5 (by decide))) (hb.fr hf (dv_nin ap 5 (by decide))) ?_
    have : 1 ≤ q := by
      obtain ⟨j, -, e2⟩ := hv.2.2.2.2.2
      have := Nat.one_le_two_pow (n := j)
      omega
    omega
/-- addElement(e) -/
theorem mt_v_addElement (l : Launch) (g : dv_P) (a b : Nat) (xs : List Int32) (x : Int32) (hn : xs.length ≤ 1700) (hlo : dv_lo g ≤ a) : dv_M l yJ2_addElement (wsY_ yJ2_addElement cJ2_addElement 2 none) 6 168 1 2560 g [.ref a, .ref b] [a] (fun h => dv_Ve g h a xs ∧ dv_in g h b x) (dv_kk g [1, 10]) (fun v h h1 => v = none ∧ dv_Ve g h1 a (xs ++ [x])) := by
  refine dv_ofS (by decide +kernel) (dv_cat rfl) q161 List.mem_cons_self hlo ?_
  intro p e s m args below meth c Q cx hnm hK hM hP Ret
  have ap := hK.ap
  obtain ⟨⟨ea, q, f, w, hv, he⟩, hb⟩ := hP
  refine dv_aload_n (pc := 0) cx dJ2_addElement_0 rfl rfl rfl ?_
  refine dv_dup (pc := 1) cx dJ2_addElement_1 rfl ?_
  refine gf_60 cx hK hv.1 dJ2_addElement_2 ?_
  refine dv_iconst (pc := 5) (v := 1) cx dJ2_addElement_5 (by decide) ?_
  refine dv_iadd (pc := 6) cx dJ2_addElement_6 rfl ?_
  refine pf_60 cx hK hv.1 hlo rfl rfl dJ2_addElement_7 (fun h1 ho1 hst1 => ?_)
  have hf1 := hv.1.st hst1 (ks := dv_kk g [1, 10]) (dv_kin (by decide)) hlo
  have hv1 := hv.st ap ho1 hst1 hv.2.2.2.2.1
  refine dv_aload_n (pc := 10) cx dJ2_addElement_10 rfl rfl rfl ?_
  refine dv_aload_n (pc := 11) cx dJ2_addElement_11 rfl rfl rfl ?_
  refine dv_aload_n (pc := 12) cx dJ2_addElement_12 rfl rfl rfl ?_
  refine gf_56 cx hK hv1.1 dJ2_addElement_13 ?_
  refine dv_aload_n (pc := 16) cx dJ2_addElement_16 rfl rfl rfl ?_
  refine gf_57 cx hK hv1.1 dJ2_addElement_17 ?_
  refine dv_cP (C := RJ3) (rest := []) (av := [.ref b, .ref ea, .int (nI xs.length)]) cx hK (mt_v_add l g a b ea q f _ xs x hn) hK.2.2.1.2.2.2.2.2.2.2.2.2.2.2.2.1 q166 q163 q520 q165 q9 q167 (n9 := 3) ⟨by decide, by decide, by decide +kernel⟩ rfl (hv1.1.rc hK rfl) ⟨⟨_, hf1⟩, dv_m0, ⟨hv1, he.fr hf1 (dv_nin ap 5 (by decide)), hb.fr hf1 (dv_nin ap 5 (by decide))⟩, Nat.le_refl _, Nat.le_refl _⟩ ⟨⟨Nat.le_of_ble_eq_true rfl, Nat.le_of_ble_eq_true rfl⟩, Nat.le_of_ble_eq_true rfl⟩ rfl rfl dJ2_addElement_20 (fun v h2 hS hf => ?_)
  obtain ⟨rfl, hS⟩ := hS
  exact Ret _ _ _ _ _ _ _ (Nat.le_refl _) (Nat.le_refl _) ⟨rfl, hS⟩ (hf1.trans hf) (dv_rov dJ2_addElement_23)
/-- Stack.push(e): e -/
theorem mt_s_push (l : Launch) (g : dv_P) (a b : Nat) (xs : List Int32) (x : Int32) (hn : xs.length ≤ 1700) (hlo : dv_lo g ≤ a) : dv_M l yJ3_push (ws_ yJ3_push cJ3_push 2 (some (.object "java/lang/Object"))) 7 196 1 2560 g [.ref a, .ref b] [a] (fun h => dv_Ve g h a xs ∧ dv_in g h b x) (dv_kk g [1, 10]) (fun v h h1 => v = some (.ref b) ∧ dv_Ve g h1 a (xs ++ [x])) := by
  refine dv_of (by decide +kernel) (dv_cat rfl) ?_
  intro p e s m args below meth c Q cx hnm hK hM hP Ret
  have hP' := hP
  obtain ⟨⟨ea, q, f, w, hv, he⟩, hb⟩ := hP'
  refine dv_aload_n (pc := 0) cx dJ3_push_0 rfl rfl rfl ?_
  refine dv_aload_n (pc := 1) cx dJ3_push_1 rfl rfl rfl ?_
  refine dv_cUS (C := RJ3) (x := ⟨"java/util/Stack", "addElement", "(Ljava/lang/Object;)V"⟩) (rest := []) (av := [.ref b]) cx hK (mt_v_addElement l g a b xs x hn hlo) rfl q157 q158 q161 q160 q9 q162 (n9 := 1) ⟨by decide, by decide, by decide +kernel⟩ rfl (hv.1.rc hK rfl) ⟨⟨[], dv_fr.rf⟩, dv_mI hM, hP, Nat.le_refl _, Nat.le_refl _⟩ ⟨⟨Nat.le_of_ble_eq_true rfl, Nat.le_of_ble_eq_true rfl⟩, Nat.le_of_ble_eq_true rfl⟩ rfl rfl dJ3_push_2 (fun v h2 hS hf => ?_)
  obtain ⟨rfl, hS⟩ := hS
  refine dv_aload_n (pc := 5) cx dJ3_push_5 rfl rfl rfl ?_
  exact Ret _ _ _ _ _ _ _ (Nat.le_refl _) (Nat.le_refl _) ⟨rfl, hS⟩ hf (dv_roa dJ3_push_6)
/-- after the shift to the right and the store -/
theorem dv_es.ins {g : dv_P} {h : dv_H} {f : Nat → Option Nat} {xs : List Int32} {b i : Nat} {x : Int32} (e : dv_es g h f xs) (hb : dv_in g h b x) (hi : i ≤ xs.length) : dv_es g h (va_up (va_cpy f f i (i + 1) (xs.length - i)) i (some b)) (xs.insertIdx i x) := by
  intro j z hz
  rw [List.getElem?_insertIdx] at hz
  by_cases h1 : j < i
  · rw [if_pos h1] at hz
    obtain ⟨c, a1, a2⟩ := e j z hz
    exact ⟨c, by rw [dv_upn (by omega), pk_cpy_out (by omega)]; exact a1, a2⟩
  · rw [if_neg h1] at hz
    by_cases h2 : j = i
    · subst h2
      rw [if_pos rfl, if_pos hi] at hz
      cases hz
      exact ⟨b, dv_ups, hb⟩
    · rw [if_neg h2] at hz
      obtain ⟨c, a1, a2⟩ := e (j - 1) z hz
      have hl : j - 1 < xs.length := (List.getElem?_eq_some_iff.mp hz).1
      exact ⟨c, by rw [dv_upn h2, pk_cpy_in (by omega) (by omega), show i + (j - (i + 1)) = j - 1 by omega]; exact a1, a2⟩
/-- insertElementAt(e, i) -/
theorem mt_v_insert (l : Launch) (g : dv_P) (a b i : Nat) (xs : List Int32) (x : Int32) (hn : xs.length ≤ 1700) (hi : i ≤ xs.length) (hlo : dv_lo g ≤ a) : dv_M l yJ2_insertElementAt (wsY_ yJ2_insertElementAt cJ2_insertElementAt 5 none) 5 140 1 2560 g [.ref a, .ref b, .int (nI i)] [a] (fun h => dv_Ve g h a xs ∧ dv_in g h b x) (dv_kk g [1, 10]) (fun v h h1 => v = none ∧ dv_Ve g h1 a (xs.insertIdx i x)) := by
  refine dv_ofS (by decide +kernel) (dv_cat rfl) q302 List.mem_cons_self hlo ?_
  intro p e s m args below meth c Q cx hnm hK hM hP Ret
  have ap := hK.ap
  obtain ⟨⟨ea, q, f, w, hv, he⟩, hb⟩ := hP
  have tail : ∀ (h : dv_H) (ea q k n : Nat) (f : Nat → Option Nat) (w : Int32), k ≤ 1 → n ≤ 2560 → dv_fr (dv_lo g) (dv_kk g [1, 10]) (dv_ct s.heap) h → dv_vr g h a ea q xs.length f w → dv_es g h f xs → dv_in g h b x → xs.length < q →
      dv_V (dv_lo g) p l e (dv_rm 5 140 1 2560) s m args below meth c h k n Q (dv_G (some a) 1 m 76 [.val (.ref a), .val (.ref b), .val (.int (nI i)), .val (.int (nI xs.length)), .val (.ref ea)] []) := by
    intro h ea q k n f w hk hn' hF hv he hb hlt
    have hq := hv.q
    refine dv_aload (pc := 76) cx dJ2_insertElementAt_76 rfl rfl ?_
    refine dv_iload_n (pc := 78) cx dJ2_insertElementAt_78 rfl rfl ?_
    refine dv_aload (pc := 79) cx dJ2_insertElementAt_79 rfl rfl ?_
    refine dv_iload_n (pc := 81) cx dJ2_insertElementAt_81 rfl rfl ?_
    refine dv_iconst (pc := 82) (v := 1) cx dJ2_insertElementAt_82 (by decide) ?_
    refine dv_iadd (v := nI (i + 1)) cx dJ2_insertElementAt_83 (nI_1 _) ?_
    refine dv_iload_n (pc := 84) cx dJ2_insertElementAt_84 rfl rfl ?_
    refine dv_iload_n (pc := 85) cx dJ2_insertElementAt_85 rfl rfl ?_
    refine dv_isub (v := nI (xs.length - i)) cx dJ2_insertElementAt_86 (pk_sub hi) ?_
    refine dv_copy (sp := i) (dp := i + 1) (nn := xs.length - i) (f := f) (f' := f) (n0 := q) (n1 := q) cx hK q251 hv.2.1 hv.2.1 hv.2.2.2.1 rfl rfl rfl (by omega) (by omega) (by omega) (by omega) (fun j hj y hy => he.box (i + j) (by omega) y hy) rfl (Nat.le_of_ble_eq_true rfl) (Nat.le_of_ble_eq_true rfl) dJ2_insertElementAt_87 ?_
    have hf1 := hv.afr (fun j => va_rf (va_cpy f f i (i + 1) (xs.length - i) j))
    have hv1 := hv.ast (f' := va_cpy f f i (i + 1) (xs.length - i)) ap
    have hb1 := hb.fr hf1 (dv_nin ap 5 (by decide))
    refine dv_aload (pc := 90) cx dJ2_insertElementAt_90 rfl rfl ?_
    refine dv_iload_n (pc := 92) cx dJ2_insertElementAt_92 rfl rfl ?_
    refine dv_aload_n (pc := 93) cx dJ2_insertElementAt_93 rfl rfl rfl ?_
    refine dv_aastB (i := i) cx hK hv1.2.1 hv1.2.2.2.1 rfl (by omega) (by omega) hb1 dJ2_insertElementAt_94 ?_
    have hf2 := hv1.afr (fun j => va_rf (va_up (va_cpy f f i (i + 1) (xs.length - i)) i (some b) j))
    have hv2 := hv1.ast (f' := va_up (va_cpy f f i (i + 1) (xs.length - i)) i (some b)) ap
    have he2 := ((he.ins hb hi).fr hf1 (dv_nin ap 5 (by decide))).fr hf2 (dv_nin ap 5 (by decide))
    refine dv_aload_n (pc := 95) cx dJ2_insertElementAt_95 rfl rfl rfl ?_
    refine dv_iload_n (pc := 96) cx dJ2_insertElementAt_96 rfl rfl ?_
    refine dv_iconst (pc := 97) (v := 1) cx dJ2_insertElementAt_97 (by decide) ?_
    refine dv_iadd (v := nI (xs.length + 1)) cx dJ2_insertElementAt_98 (nI_1 _) ?_
    refine pf_57 cx hK hv2.1 hv2.2.2.1 rfl rfl dJ2_insertElementAt_99 (fun h3 ho3 hst3 => ?_)
    have hf3 := hv2.1.st hst3 (ks := dv_kk g [1, 10]) (dv_kin (by decide)) hlo
    refine Ret _ _ _ _ _ _ _ hk hn' ⟨rfl, ea, q, _, w, ?_, he2.fr hf3 (dv_nin ap 5 (by decide))⟩ (((hF.trans hf1).trans hf2).trans hf3) (dv_rov dJ2_insertElementAt_102)
    rw [List.length_insertIdx, if_pos hi]
    exact hv2.st ap ho3 hst3 hlt
  have hq := hv.q
  have hnq := hv.2.2.2.2.1
  refine dv_iload_n (pc := 0) cx dJ2_insertElementAt_0 rfl rfl ?_
  refine dv_aload_n (pc := 1) cx dJ2_insertElementAt_1 rfl rfl rfl ?_
  refine gf_57 cx hK hv.1 dJ2_insertElementAt_2 ?_
  refine dv_icmp_le (tgt := 42) cx dJ2_insertElementAt_5 (by decide) (fun _ => ?_) (fun hc => absurd (nI_le hi (by omega)) hc)
  refine dv_aload_n (pc := 42) cx dJ2_insertElementAt_42 rfl rfl rfl ?_
  refine dv_dup (pc := 43) cx dJ2_insertElementAt_43 rfl ?_
  refine gf_60 cx hK hv.1 dJ2_insertElementAt_44 ?_
  refine dv_iconst (pc := 47) (v := 1) cx dJ2_insertElementAt_47 (by decide) ?_
  refine dv_iadd (pc := 48) cx dJ2_insertElementAt_48 rfl ?_
  refine pf_60 cx hK hv.1 hlo rfl rfl dJ2_insertElementAt_49 (fun h1 ho1 hst1 => ?_)
  have hf1 := hv.1.st hst1 (ks := dv_kk g [1, 10]) (dv_kin (by decide)) hlo
  have hv1 := hv.st ap ho1 hst1 hv.2.2.2.2.1
  have he1 := he.fr hf1 (dv_nin ap 5 (by decide))
  have hb1 := hb.fr hf1 (dv_nin ap 5 (by decide))
  refine dv_aload_n (pc := 52) cx dJ2_insertElementAt_52 rfl rfl rfl ?_
  refine gf_57 cx hK hv1.1 dJ2_insertElementAt_53 ?_
  refine dv_istore_n (pc := 56) cx dJ2_insertElementAt_56 rfl rfl ?_
  refine dv_aload_n (pc := 57) cx dJ2_insertElementAt_57 rfl rfl rfl ?_
  refine gf_56 cx hK hv1.1 dJ2_insertElementAt_58 ?_
  refine dv_astore (pc := 61) cx dJ2_insertElementAt_61 rfl rfl rfl ?_
  refine dv_iload_n (pc := 63) cx dJ2_insertElementAt_63 rfl rfl ?_
  refine dv_aload (pc := 64) cx dJ2_insertElementAt_64 rfl rfl ?_
  refine dv_alen (v := nI q) cx hK 0 rfl hv1.2.1 rfl dJ2_insertElementAt_66 ?_
  refine dv_icmp_ne (tgt := 76) cx dJ2_insertElementAt_67 (by decide) (fun hc => ?_) (fun hc => ?_)
  · refine tail _ ea q _ _ f _ (Nat.zero_le _) (Nat.zero_le _) hf1 hv1 he1 hb1 ?_
    rcases Nat.lt_or_ge xs.length q with z | z
    · exact z
    · exact absurd (by rw [show xs.length = q by omega]) hc
  · have e1 : xs.length = q := (nI_eq (by omega) (by omega)).mp hc
    have hv' : dv_vr g h1 a ea q q f (w + 1) := by rw [e1] at hv1; exact hv1
    have hq2 := dv_cap hn e1 hv.2.2.2.2.2
    refine dv_aload_n (pc := 70) cx dJ2_insertElementAt_70 rfl rfl rfl ?_
    refine dv_cP (C := RJ3) (rest := []) (av := []) cx hK (mt_v_grow l g a ea q f _ hq2) hK.2.2.1.2.2.2.2.2.2.2.2.2.2.2.2.2.1 q166 q168 q521 q170 q9 q171 (n9 := 0) ⟨by decide, by decide, by decide +kernel⟩ rfl (hv1.1.rc hK rfl) ⟨⟨_, hf1⟩, dv_m0, ⟨hv', by rw [← e1]; exact he1.box⟩, Nat.le_refl _, Nat.le_refl _⟩ ⟨⟨Nat.le_of_ble_eq_true rfl, Nat.le_of_ble_eq_true rfl⟩, Nat.le_of_ble_eq_true rfl⟩ rfl rfl dJ2_insertElementAt_71 (fun v h2 hS hf => ?_)
    obtain ⟨ea', rfl, hv2⟩ := hS
    refine dv_astore (pc := 74) cx dJ2_insertElementAt_74 rfl rfl rfl ?_
    refine tail h2 ea' (2 * q) _ _ _ _ (Nat.le_refl _) (Nat.le_refl _) (hf1.trans hf) (by rw [e1]; exact hv2) ((he1.grow (by omega)).fr hf (dv_nin ap 5 (by decide))) (hb1.fr hf (dv_nin ap 5 (by decide))) ?_
    have : 1 ≤ q := by
      obtain ⟨j, -, e2⟩ := hv.2.2.2.2.2
      have := Nat.one_le_two_pow (n := j)
      omega
    omega
/-- after the shift to the left -/
theorem dv_es.del {g : dv_P} {h : dv_H} {f f' : Nat → Option Nat} {xs : List Int32} {i : Nat} (e : dv_es g h f xs) (hi : i < xs.length) (h1 : ∀ j, j < i → f' j = f j) (h2 : ∀ j, i ≤ j → j + 1 < xs.length → f' j = f (j + 1)) : dv_es g h f' (xs.eraseIdx i) := by
  intro j z hz
  rw [List.getElem?_eraseIdx] at hz
  by_cases h3 : j < i
  · rw [if_pos h3] at hz
    obtain ⟨c, a1, a2⟩ := e j z hz
    exact ⟨c, by rw [h1 j h3]; exact a1, a2⟩
  · rw [if_neg h3] at hz
    obtain ⟨c, a1, a2⟩ := e (j + 1) z hz
    have hl : j + 1 < xs.length := (List.getElem?_eq_some_iff.mp hz).1
    exact ⟨c, by rw [h2 j (by omega) hl]; exact a1, a2⟩
/-- removeElementAt(i) -/
theorem mt_v_removeAt (l : Launch) (g : dv_P) (a i : Nat) (xs : List Int32) (hi : i < xs.length) (hlo : dv_lo g ≤ a) : dv_M l yJ2_removeElementAt (wsY_ yJ2_removeElementAt cJ2_removeElementAt 3 none) 1 28 0 0 g [.ref a, .int (nI i)] [a] (fun h => dv_Ve g h a xs) (dv_kk g [1, 10]) (fun v h h1 => v = none ∧ dv_Ve g h1 a (xs.eraseIdx i)) := by
  refine dv_ofS (by decide +kernel) (dv_cat rfl) q249 List.mem_cons_self hlo ?_
  intro p e s m args below meth c Q cx hnm hK hM hP Ret
  have ap := hK.ap
  obtain ⟨ea, q, f, w, hv, he⟩ := hP
  have hq := hv.q
  have hnq := hv.2.2.2.2.1
  have tail : ∀ (h : dv_H) (f' : Nat → Option Nat) (x2 : Int32), dv_fr (dv_lo g) (dv_kk g [1, 10]) (dv_ct s.heap) h → dv_vr g h a ea q xs.length f' w → dv_es g h (va_up f' (xs.length - 1) none) (xs.eraseIdx i) →
      dv_V (dv_lo g) p l e (dv_rm 1 28 0 0) s m args below meth c h 0 0 Q (dv_G (some a) 1 m 84 [.val (.ref a), .val (.int (nI i)), .val (.int x2)] []) := by
    intro h f' x2 hF hv he
    refine dv_aload_n (pc := 84) cx dJ2_removeElementAt_84 rfl rfl rfl ?_
    refine dv_dup (pc := 85) cx dJ2_removeElementAt_85 rfl ?_
    refine gf_60 cx hK hv.1 dJ2_removeElementAt_86 ?_
    refine dv_iconst (pc := 89) (v := 1) cx dJ2_removeElementAt_89 (by decide) ?_
    refine dv_iadd (pc := 90) cx dJ2_removeElementAt_90 rfl ?_
    refine pf_60 cx hK hv.1 hlo rfl rfl dJ2_removeElementAt_91 (fun h1 ho1 hst1 => ?_)
    have hf1 := hv.1.st hst1 (ks := dv_kk g [1, 10]) (dv_kin (by decide)) hlo
    have hv1 := hv.st ap ho1 hst1 hv.2.2.2.2.1
    refine dv_aload_n (pc := 94) cx dJ2_removeElementAt_94 rfl rfl rfl ?_
    refine dv_dup (pc := 95) cx dJ2_removeElementAt_95 rfl ?_
    refine gf_57 cx hK hv1.1 dJ2_removeElementAt_96 ?_
    refine dv_iconst (pc := 99) (v := 1) cx dJ2_removeElementAt_99 (by decide) ?_
    refine dv_isub (v := nI (xs.length - 1)) cx dJ2_removeElementAt_100 (by rw [show (1 : Int32) = nI 1 from rfl, pk_sub (by omega)]) ?_
    refine pf_57 cx hK hv1.1 hlo rfl rfl dJ2_removeElementAt_101 (fun h2 ho2 hst2 => ?_)
    have hf2 := hv1.1.st hst2 (ks := dv_kk g [1, 10]) (dv_kin (by decide)) hlo
    have hv2 := hv1.st (n' := xs.length - 1) ap ho2 hst2 (by omega)
    refine dv_aload_n (pc := 104) cx dJ2_removeElementAt_104 rfl rfl rfl ?_
    refine gf_56 cx hK hv2.1 dJ2_removeElementAt_105 ?_
    refine dv_aload_n (pc := 108) cx dJ2_removeElementAt_108 rfl rfl rfl ?_
    refine gf_57 cx hK hv2.1 dJ2_removeElementAt_109 ?_
    refine dv_null (pc := 112) cx dJ2_removeElementAt_112 ?_
    refine dv_aastBN (i := xs.length - 1) cx hK hv2.2.1 hv2.2.2.2.1 rfl (by omega) (by omega) dJ2_removeElementAt_113 ?_
    have hf3 := hv2.afr (fun j => va_rf (va_up f' (xs.length - 1) none j))
    have hv3 := hv2.ast (f' := va_up f' (xs.length - 1) none) ap
    refine Ret _ _ _ _ _ _ _ (Nat.le_refl _) (Nat.le_refl _) ⟨rfl, ea, q, _, w + 1, ?_, ((he.fr hf1 (dv_nin ap 5 (by decide))).fr hf2 (dv_nin ap 5 (by decide))).fr hf3 (dv_nin ap 5 (by decide))⟩ (((hF.trans hf1).trans hf2).trans hf3) (dv_rov dJ2_removeElementAt_114)
    rw [List.length_eraseIdx, if_pos hi]
    exact hv3
  refine dv_iload_n (pc := 0) cx dJ2_removeElementAt_0 rfl rfl ?_
  refine dv_aload_n (pc := 1) cx dJ2_removeElementAt_1 rfl rfl rfl ?_
  refine gf_57 cx hK hv.1 dJ2_removeElementAt_2 ?_
  refine dv_icmp_lt (tgt := 42) cx dJ2_removeElementAt_5 (by decide) (fun _ => ?_) (fun hc => absurd (nI_lt hi (by omega)) hc)
  refine dv_iload_n (pc := 42) cx dJ2_removeElementAt_42 rfl rfl ?_
  refine dv_if_ge (tgt := 55) cx dJ2_removeElementAt_43 (by decide) (fun _ => ?_) (fun hc => absurd (nI_pos' (by omega)) hc)
  refine dv_aload_n (pc := 55) cx dJ2_removeElementAt_55 rfl rfl rfl ?_
  refine gf_57 cx hK hv.1 dJ2_removeElementAt_56 ?_
  refine dv_iload_n (pc := 59) cx dJ2_removeElementAt_59 rfl rfl ?_
  refine dv_isub (v := nI (xs.length - i)) cx dJ2_removeElementAt_60 (pk_sub (by omega)) ?_
  refine dv_iconst (pc := 61) (v := 1) cx dJ2_removeElementAt_61 (by decide) ?_
  refine dv_isub (v := nI (xs.length - i - 1)) cx dJ2_removeElementAt_62 (by rw [show (1 : Int32) = nI 1 from rfl, pk_sub (by omega)]) ?_
  refine dv_istore_n (pc := 63) cx dJ2_removeElementAt_63 rfl rfl ?_
  refine dv_iload_n (pc := 64) cx dJ2_removeElementAt_64 rfl rfl ?_
  refine dv_if_le (tgt := 84) cx dJ2_removeElementAt_65 (by decide) (fun hc => ?_) (fun hc => ?_)
  · have e1 : xs.length - i - 1 = 0 := by
      rcases Nat.eq_zero_or_pos (xs.length - i - 1) with z | z
      · exact z
      · exact absurd hc (nI_nle z (by omega))
    refine tail _ f _ dv_fr.rf hv (he.del hi (fun j hj => dv_upn (by omega)) (fun j h1 h2 => absurd h2 (by omega)))
  · refine dv_aload_n (pc := 68) cx dJ2_removeElementAt_68 rfl rfl rfl ?_
    refine gf_56 cx hK hv.1 dJ2_removeElementAt_69 ?_
    refine dv_iload_n (pc := 72) cx dJ2_removeElementAt_72 rfl rfl ?_
    refine dv_iconst (pc := 73) (v := 1) cx dJ2_removeElementAt_73 (by decide) ?_
    refine dv_iadd (v := nI (i + 1)) cx dJ2_removeElementAt_74 (nI_1 _) ?_
    refine dv_aload_n (pc := 75) cx dJ2_removeElementAt_75 rfl rfl rfl ?_
    refine gf_56 cx hK hv.1 dJ2_removeElementAt_76 ?_
    refine dv_iload_n (pc := 79) cx dJ2_removeElementAt_79 rfl rfl ?_
    refine dv_iload_n (pc := 80) cx dJ2_removeElementAt_80 rfl rfl ?_
    refine dv_copy (sp := i + 1) (dp := i) (nn := xs.length - i - 1) (f := f) (f' := f) (n0 := q) (n1 := q) cx hK q251 hv.2.1 hv.2.1 hv.2.2.2.1 rfl rfl rfl (by omega) (by omega) (by omega) (by omega) (fun j hj y hy => he.box (i + 1 + j) (by omega) y hy) rfl (Nat.le_of_ble_eq_true rfl) (Nat.le_of_ble_eq_true rfl) dJ2_removeElementAt_81 ?_
    have hf1 := hv.afr (fun j => va_rf (va_cpy f f (i + 1) i (xs.length - i - 1) j))
    have hv1 := hv.ast (f' := va_cpy f f (i + 1) i (xs.length - i - 1)) ap
    refine tail _ _ _ hf1 hv1 ((he.del hi (fun j hj => ?_) (fun j h1 h2 => ?_)).fr hf1 (dv_nin ap 5 (by decide)))
    · rw [dv_upn (by omega), pk_cpy_out (by omega)]
    · rw [dv_upn (by omega), pk_cpy_in (by omega) (by omega)]
      congr 1
      omega
end
section
/-! ===== Vector: indexOf, lastIndexOf, removeElement; Stack: peek, pop, search, empty ===== -/
set_option maxRecDepth 100000
/-- i is the first place of x in xs, or the length -/
def dv_fst (x : Int32) (xs : List Int32) (i : Nat) : Prop := i ≤ xs.length ∧ (∀ j, j < i → xs[j]? ≠ some x) ∧ (i < xs.length → xs[i]? = some x)
theorem dv_fst.uniq {x : Int32} {xs : List Int32} {i j : Nat} (h1 : dv_fst x xs i) (h2 : dv_fst x xs j) : i = j := by
  rcases Nat.lt_trichotomy i j with z | z | z
  · exact absurd (h1.2.2 (by have := h2.1; omega)) (h2.2.1 i z)
  · exact z
  · exact absurd (h2.2.2 (by have := h1.1; omega)) (h1.2.1 j z)
/-- k - 1 is the last place of x in xs, or k = 0 -/
def dv_lst (x : Int32) (xs : List Int32) (k : Nat) : Prop := k ≤ xs.length ∧ (∀ j, k ≤ j → j < xs.length → xs[j]? ≠ some x) ∧ (0 < k → xs[k - 1]? = some x)
theorem dv_lst.uniq {x : Int32} {xs : List Int32} {i j : Nat} (h1 : dv_lst x xs i) (h2 : dv_lst x xs j) : i = j := by
  rcases Nat.lt_trichotomy i j with z | z | z
  · exact absurd (h2.2.2 (by omega)) (h1.2.1 (j - 1) (by omega) (by have := h2.1; omega))
  · exact z
  · exact absurd (h1.2.2 (by omega)) (h2.2.1 (i - 1) (by omega) (by have := h1.1; omega))
theorem dv_m1 (x : Int32) : x + Int32.ofInt (-1) = x - 1 := by
  rw [show Int32.ofInt (-1) = (-1 : Int32) by decide, Int32.sub_eq_add_neg]
abbrev dv_Sfi (x : Int32) (xs : List Int32) : Option Value → dv_H → dv_H → Prop := fun v h h1 => h1 = h ∧ ∃ i, dv_fst x xs i ∧ v = some (.int (if i < xs.length then nI i else -1))
/-- indexOf(o, 0) -/
theorem mt_v_indexOf2 (l : Launch) (g : dv_P) (a b : Nat) (xs : List Int32) (x : Int32) (hlo : dv_lo g ≤ a) : dv_M l yJ2_indexOf_2 (wsY_ yJ2_indexOf_2 cJ2_indexOf_2 4 (some .int)) 2 56 0 0 g [.ref a, .ref b, .int 0] [a] (fun h => dv_Ve g h a xs ∧ dv_in g h b x) [] (dv_Sfi x xs) := by
  refine dv_ofS (by decide +kernel) (dv_cat rfl) q325 List.mem_cons_self hlo ?_
  intro p e s m args below meth c Q cx hnm hK hM hP Ret
  obtain ⟨⟨ea, q, f, w, hv, he⟩, hb⟩ := hP
  have hq := hv.q
  have hnq := hv.2.2.2.2.1
  have loop : ∀ d i, d + i = xs.length → (∀ j, j < i → xs[j]? ≠ some x) →
      dv_V (dv_lo g) p l e (dv_rm 2 56 0 0) s m args below meth c (dv_ct s.heap) 0 0 Q (dv_G (some a) 1 m 36 [.val (.ref a), .val (.ref b), .val (.int 0), .val (.int (nI i))] []) := by
    intro d
    induction d with
    | zero =>
      intro i hi hno
      refine dv_iload_n (pc := 36) cx dJ2_indexOf_2_36 rfl rfl ?_
      refine dv_aload_n (pc := 37) cx dJ2_indexOf_2_37 rfl rfl rfl ?_
      refine gf_57 cx hK hv.1 dJ2_indexOf_2_38 ?_
      refine dv_icmp_ge (tgt := 65) cx dJ2_indexOf_2_41 (by decide) (fun _ => ?_) (fun hc => absurd (nI_le (by omega) (by omega)) hc)
      refine dv_iconst (pc := 65) (v := (-1)) cx dJ2_indexOf_2_65 (by decide) ?_
      exact Ret _ _ _ _ _ _ _ (Nat.le_refl _) (Nat.le_refl _) ⟨rfl, i, ⟨by omega, hno, fun z => absurd z (by omega)⟩, by rw [if_neg (by omega)]⟩ dv_fr.rf (dv_roi dJ2_indexOf_2_66)
    | succ d ih =>
      intro i hi hno
      have hil : i < xs.length := by omega
      obtain ⟨b2, hb1, hb2⟩ := he i xs[i] (List.getElem?_eq_getElem hil)
      refine dv_iload_n (pc := 36) cx dJ2_indexOf_2_36 rfl rfl ?_
      refine dv_aload_n (pc := 37) cx dJ2_indexOf_2_37 rfl rfl rfl ?_
      refine gf_57 cx hK hv.1 dJ2_indexOf_2_38 ?_
      refine dv_icmp_ge (tgt := 65) cx dJ2_indexOf_2_41 (by decide) (fun hc => absurd hc (nI_ge hil (by omega))) (fun _ => ?_)
      refine dv_aload_n (pc := 44) cx dJ2_indexOf_2_44 rfl rfl rfl ?_
      refine dv_aload_n (pc := 45) cx dJ2_indexOf_2_45 rfl rfl rfl ?_
      refine gf_56 cx hK hv.1 dJ2_indexOf_2_46 ?_
      refine dv_iload_n (pc := 49) cx dJ2_indexOf_2_49 rfl rfl ?_
      refine dv_aald (i := i) (v := .ref b2) cx hK 0 rfl hv.2.1 rfl (by omega) (by omega) (by rw [hb1]; rfl) dJ2_indexOf_2_50 ?_
      refine dv_cO (C := RJ9) (x := dv_xEq) (rest := []) (av := [.ref b2]) cx hK (mt_equals l g b b2 x xs[i]) hK.2.2.1.2.2.2.2.2.2.2.2.1 q285 q287 q290 q289 q16 q291 (n9 := 1) ⟨by decide, by decide, by decide +kernel⟩ rfl (hb.rc hK) ⟨⟨[], dv_fr.rf⟩, dv_m0, ⟨hb, hb2⟩, Nat.le_refl _, Nat.le_refl _⟩ ⟨⟨Nat.le_of_ble_eq_true rfl, Nat.le_of_ble_eq_true rfl⟩, Nat.le_of_ble_eq_true rfl⟩ rfl rfl dJ2_indexOf_2_51 (fun v h1 hS hf => ?_)
      obtain ⟨rfl, rfl⟩ := hS
      refine dv_if_eq (tgt := 59) cx dJ2_indexOf_2_54 (by decide) (fun hc => ?_) (fun hc => ?_)
      · have hne : x ≠ xs[i] := fun z => by rw [if_pos z] at hc; exact absurd hc (by decide)
        refine dv_iinc (v := nI (i + 1)) cx dJ2_indexOf_2_59 rfl (nI_1 i) ?_
        refine dv_goto (pc := 62) (tgt := 36) cx dJ2_indexOf_2_62 (by decide) ?_
        refine ih (i + 1) (by omega) (fun j hj => ?_)
        by_cases z : j = i
        · subst z
          rw [List.getElem?_eq_getElem hil]
          exact fun w => hne (Option.some.inj w).symm
        · exact hno j (by omega)
      · have heq : x = xs[i] := by
          by_cases z : x = xs[i]
          · exact z
          · rw [if_neg z] at hc; exact absurd rfl hc
        refine dv_iload_n (pc := 57) cx dJ2_indexOf_2_57 rfl rfl ?_
        exact Ret _ _ _ _ _ _ _ (Nat.le_refl _) (Nat.le_refl _) ⟨rfl, i, ⟨by omega, hno, fun _ => by rw [List.getElem?_eq_getElem hil, ← heq]⟩, by rw [if_pos hil]⟩ dv_fr.rf (dv_roi dJ2_indexOf_2_58)
  refine dv_aload_n (pc := 0) cx dJ2_indexOf_2_0 rfl rfl rfl ?_
  refine dv_ifnonnull (tgt := 34) cx dJ2_indexOf_2_1 (by decide) ?_
  refine dv_iload_n (pc := 34) cx dJ2_indexOf_2_34 rfl rfl ?_
  refine dv_istore_n (pc := 35) cx dJ2_indexOf_2_35 rfl rfl ?_
  exact loop xs.length 0 (by omega) (fun j hj => absurd hj (by omega))
theorem mt_v_indexOf (l : Launch) (g : dv_P) (a b : Nat) (xs : List Int32) (x : Int32) (hlo : dv_lo g ≤ a) : dv_M l yJ2_indexOf (ws_ yJ2_indexOf cJ2_indexOf 2 (some .int)) 3 84 0 0 g [.ref a, .ref b] [a] (fun h => dv_Ve g h a xs ∧ dv_in g h b x) [] (dv_Sfi x xs) := by
  refine dv_of (by decide +kernel) (dv_cat rfl) ?_
  intro p e s m args below meth c Q cx hnm hK hM hP Ret
  have hP' := hP
  obtain ⟨⟨ea, q, f, w, hv, he⟩, hb⟩ := hP'
  refine dv_aload_n (pc := 0) cx dJ2_indexOf_0 rfl rfl rfl ?_
  refine dv_aload_n (pc := 1) cx dJ2_indexOf_1 rfl rfl rfl ?_
  refine dv_iconst (pc := 2) (v := 0) cx dJ2_indexOf_2 (by decide) ?_
  refine dv_cUS (C := RJ3) (x := yJ2_indexOf_2) (rest := []) (av := [.ref b, .int 0]) cx hK (mt_v_indexOf2 l g a b xs x hlo) rfl q324 q326 q325 q327 q9 q328 (n9 := 2) ⟨by decide, by decide, by decide +kernel⟩ rfl (hv.1.rc hK rfl) ⟨⟨[], dv_fr.rf⟩, dv_mI hM, hP, Nat.le_refl _, Nat.le_refl _⟩ ⟨⟨Nat.le_of_ble_eq_true rfl, Nat.le_of_ble_eq_true rfl⟩, Nat.le_of_ble_eq_true rfl⟩ rfl rfl dJ2_indexOf_3 (fun v h1 hS hf => ?_)
  obtain ⟨rfl, i, hi, rfl⟩ := hS
  exact Ret _ _ _ _ _ _ _ (Nat.le_refl _) (Nat.le_refl _) ⟨rfl, i, hi, rfl⟩ dv_fr.rf (dv_roi dJ2_indexOf_6)
abbrev dv_Sli (x : Int32) (xs : List Int32) : Option Value → dv_H → dv_H → Prop := fun v h h1 => h1 = h ∧ ∃ k, dv_lst x xs k ∧ v = some (.int (nI k - 1))
/-- lastIndexOf(o, n - 1) -/
theorem mt_v_lastIndexOf2 (l : Launch) (g : dv_P) (a b : Nat) (xs : List Int32) (x : Int32) (hlo : dv_lo g ≤ a) : dv_M l yJ2_lastIndexOf_2 (wsY_ yJ2_lastIndexOf_2 cJ2_lastIndexOf_2 4 (some .int)) 2 56 0 0 g [.ref a, .ref b, .int (nI xs.length - 1)] [a] (fun h => dv_Ve g h a xs ∧ dv_in g h b x) [] (dv_Sli x xs) := by
  refine dv_ofS (by decide +kernel) (dv_cat rfl) q280 List.mem_cons_self hlo ?_
  intro p e s m args below meth c Q cx hnm hK hM hP Ret
  obtain ⟨⟨ea, q, f, w, hv, he⟩, hb⟩ := hP
  have hq := hv.q
  have hnq := hv.2.2.2.2.1
  have loop : ∀ k, k ≤ xs.length → (∀ j, k ≤ j → j < xs.length → xs[j]? ≠ some x) →
      dv_V (dv_lo g) p l e (dv_rm 2 56 0 0) s m args below meth c (dv_ct s.heap) 0 0 Q (dv_G (some a) 1 m 74 [.val (.ref a), .val (.ref b), .val (.int (nI xs.length - 1)), .val (.int (nI k - 1))] []) := by
    intro k
    induction k with
    | zero =>
      intro hk hno
      refine dv_iload_n (pc := 74) cx dJ2_lastIndexOf_2_74 rfl rfl ?_
      refine dv_if_lt (tgt := 99) cx dJ2_lastIndexOf_2_75 (by decide) (fun _ => ?_) (fun hc => absurd (by decide) hc)
      refine dv_iconst (pc := 99) (v := (-1)) cx dJ2_lastIndexOf_2_99 (by decide) ?_
      exact Ret _ _ _ _ _ _ _ (Nat.le_refl _) (Nat.le_refl _) ⟨rfl, 0, ⟨hk, hno, fun z => absurd z (by omega)⟩, rfl⟩ dv_fr.rf (dv_roi dJ2_lastIndexOf_2_100)
    | succ k ih =>
      intro hk hno
      have hil : k < xs.length := by omega
      obtain ⟨b2, hb1, hb2⟩ := he k xs[k] (List.getElem?_eq_getElem hil)
      have e1 := nI_pred k
      refine dv_iload_n (pc := 74) cx dJ2_lastIndexOf_2_74 rfl rfl ?_
      refine dv_if_lt (tgt := 99) cx dJ2_lastIndexOf_2_75 (by decide) (fun hc => absurd hc (by rw [e1]; exact nI_pos (by omega))) (fun _ => ?_)
      refine dv_aload_n (pc := 78) cx dJ2_lastIndexOf_2_78 rfl rfl rfl ?_
      refine dv_aload_n (pc := 79) cx dJ2_lastIndexOf_2_79 rfl rfl rfl ?_
      refine gf_56 cx hK hv.1 dJ2_lastIndexOf_2_80 ?_
      refine dv_iload_n (pc := 83) cx dJ2_lastIndexOf_2_83 rfl rfl ?_
      refine dv_aald (i := k) (v := .ref b2) cx hK 0 rfl hv.2.1 e1 (by omega) (by omega) (by rw [hb1]; rfl) dJ2_lastIndexOf_2_84 ?_
      refine dv_cO (C := RJ9) (x := dv_xEq) (rest := []) (av := [.ref b2]) cx hK (mt_equals l g b b2 x xs[k]) hK.2.2.1.2.2.2.2.2.2.2.2.1 q285 q287 q290 q289 q16 q291 (n9 := 1) ⟨by decide, by decide, by decide +kernel⟩ rfl (hb.rc hK) ⟨⟨[], dv_fr.rf⟩, dv_m0, ⟨hb, hb2⟩, Nat.le_refl _, Nat.le_refl _⟩ ⟨⟨Nat.le_of_ble_eq_true rfl, Nat.le_of_ble_eq_true rfl⟩, Nat.le_of_ble_eq_true rfl⟩ rfl rfl dJ2_lastIndexOf_2_85 (fun v h1 hS hf => ?_)
      obtain ⟨rfl, rfl⟩ := hS
      refine dv_if_eq (tgt := 93) cx dJ2_lastIndexOf_2_88 (by decide) (fun hc => ?_) (fun hc => ?_)
      · have hne : x ≠ xs[k] := fun z => by rw [if_pos z] at hc; exact absurd hc (by decide)
        refine dv_iinc (v := nI k - 1) cx dJ2_lastIndexOf_2_93 rfl (by rw [e1]; exact dv_m1 _) ?_
        refine dv_goto (pc := 96) (tgt := 74) cx dJ2_lastIndexOf_2_96 (by decide) ?_
        refine ih (by omega) (fun j hj hj2 => ?_)
        by_cases z : j = k
        · subst z
          rw [List.getElem?_eq_getElem hil]
          exact fun w => hne (Option.some.inj w).symm
        · exact hno j (by omega) hj2
      · have heq : x = xs[k] := by
          by_cases z : x = xs[k]
          · exact z
          · rw [if_neg z] at hc; exact absurd rfl hc
        refine dv_iload_n (pc := 91) cx dJ2_lastIndexOf_2_91 rfl rfl ?_
        exact Ret _ _ _ _ _ _ _ (Nat.le_refl _) (Nat.le_refl _) ⟨rfl, k + 1, ⟨hk, hno, fun _ => by rw [Nat.add_sub_cancel, List.getElem?_eq_getElem hil, ← heq]⟩, rfl⟩ dv_fr.rf (dv_roi dJ2_lastIndexOf_2_92)
  refine dv_iload_n (pc := 0) cx dJ2_lastIndexOf_2_0 rfl rfl ?_
  refine dv_aload_n (pc := 1) cx dJ2_lastIndexOf_2_1 rfl rfl rfl ?_
  refine gf_57 cx hK hv.1 dJ2_lastIndexOf_2_2 ?_
  refine dv_icmp_lt (tgt := 42) cx dJ2_lastIndexOf_2_5 (by decide) (fun _ => ?_) (fun hc => ?_)
  · refine dv_aload_n (pc := 42) cx dJ2_lastIndexOf_2_42 rfl rfl rfl ?_
    refine dv_ifnonnull (tgt := 72) cx dJ2_lastIndexOf_2_43 (by decide) ?_
    refine dv_iload_n (pc := 72) cx dJ2_lastIndexOf_2_72 rfl rfl ?_
    refine dv_istore_n (pc := 73) cx dJ2_lastIndexOf_2_73 rfl rfl ?_
    exact loop xs.length (Nat.le_refl _) (fun j h1 h2 => absurd h2 (by omega))
  · refine absurd ?_ hc
    cases hl : xs.length with
    | zero => decide
    | succ k => rw [nI_pred]; exact nI_lt (by omega) (by omega)
theorem mt_v_lastIndexOf (l : Launch) (g : dv_P) (a b : Nat) (xs : List Int32) (x : Int32) (hlo : dv_lo g ≤ a) : dv_M l yJ2_lastIndexOf (wsY_ yJ2_lastIndexOf cJ2_lastIndexOf 2 (some .int)) 3 84 0 0 g [.ref a, .ref b] [a] (fun h => dv_Ve g h a xs ∧ dv_in g h b x) [] (dv_Sli x xs) := by
  refine dv_ofS (by decide +kernel) (dv_cat rfl) q277 List.mem_cons_self hlo ?_
  intro p e s m args below meth c Q cx hnm hK hM hP Ret
  have hP' := hP
  obtain ⟨⟨ea, q, f, w, hv, he⟩, hb⟩ := hP'
  refine dv_aload_n (pc := 0) cx dJ2_lastIndexOf_0 rfl rfl rfl ?_
  refine dv_aload_n (pc := 1) cx dJ2_lastIndexOf_1 rfl rfl rfl ?_
  refine dv_aload_n (pc := 2) cx dJ2_lastIndexOf_2 rfl rfl rfl ?_
  refine gf_57 cx hK hv.1 dJ2_lastIndexOf_3 ?_
  refine dv_iconst (pc := 6) (v := 1) cx dJ2_lastIndexOf_6 (by decide) ?_
  refine dv_isub (pc := 7) cx dJ2_lastIndexOf_7 rfl ?_
  refine dv_cUS (C := RJ3) (x := yJ2_lastIndexOf_2) (rest := []) (av := [.ref b, .int (nI xs.length - 1)]) cx hK (mt_v_lastIndexOf2 l g a b xs x hlo) rfl q279 q281 q280 q282 q9 q283 (n9 := 2) ⟨by decide, by decide, by decide +kernel⟩ rfl (hv.1.rc hK rfl) ⟨⟨[], dv_fr.rf⟩, dv_mI hM, hP, Nat.le_refl _, Nat.le_refl _⟩ ⟨⟨Nat.le_of_ble_eq_true rfl, Nat.le_of_ble_eq_true rfl⟩, Nat.le_of_ble_eq_true rfl⟩ rfl rfl dJ2_lastIndexOf_8 (fun v h1 hS hf => ?_)
  obtain ⟨rfl, i, hi, rfl⟩ := hS
  exact Ret _ _ _ _ _ _ _ (Nat.le_refl _) (Nat.le_refl _) ⟨rfl, i, hi, rfl⟩ dv_fr.rf (dv_roi dJ2_lastIndexOf_11)
/-- removeElement(o): the first one goes -/
theorem mt_v_removeElement (l : Launch) (g : dv_P) (a b : Nat) (xs : List Int32) (x : Int32) (hlo : dv_lo g ≤ a) : dv_M l yJ2_removeElement (wsY_ yJ2_removeElement cJ2_removeElement 3 (some .boolean)) 4 112 0 0 g [.ref a, .ref b] [a] (fun h => dv_Ve g h a xs ∧ dv_in g h b x) (dv_kk g [1, 10]) (fun v h h1 => ∃ i, dv_fst x xs i ∧ ((i < xs.length ∧ v = some (.int 1) ∧ dv_Ve g h1 a (xs.eraseIdx i)) ∨ (i = xs.length ∧ v = some (.int 0) ∧ dv_Ve g h1 a xs))) := by
  refine dv_ofS (by decide +kernel) (dv_cat rfl) q317 List.mem_cons_self hlo ?_
  intro p e s m args below meth c Q cx hnm hK hM hP Ret
  have ap := hK.ap
  obtain ⟨⟨ea, q, f, w, hv, he⟩, hb⟩ := hP
  have hq := hv.q
  have hnq := hv.2.2.2.2.1
  refine dv_aload_n (pc := 0) cx dJ2_removeElement_0 rfl rfl rfl ?_
  refine dv_dup (pc := 1) cx dJ2_removeElement_1 rfl ?_
  refine gf_60 cx hK hv.1 dJ2_removeElement_2 ?_
  refine dv_iconst (pc := 5) (v := 1) cx dJ2_removeElement_5 (by decide) ?_
  refine dv_iadd (pc := 6) cx dJ2_removeElement_6 rfl ?_
  refine pf_60 cx hK hv.1 hlo rfl rfl dJ2_removeElement_7 (fun h1 ho1 hst1 => ?_)
  have hf1 := hv.1.st hst1 (ks := dv_kk g [1, 10]) (dv_kin (by decide)) hlo
  have hv1 := hv.st ap ho1 hst1 hv.2.2.2.2.1
  have he1 := he.fr hf1 (dv_nin ap 5 (by decide))
  have hb1 := hb.fr hf1 (dv_nin ap 5 (by decide))
  have hV1 : dv_Ve g h1 a xs := ⟨ea, q, f, _, hv1, he1⟩
  refine dv_aload_n (pc := 10) cx dJ2_removeElement_10 rfl rfl rfl ?_
  refine dv_aload_n (pc := 11) cx dJ2_removeElement_11 rfl rfl rfl ?_
  refine dv_cU (C := RJ3) (x := yJ2_indexOf) (rest := []) (av := [.ref b]) cx hK (mt_v_indexOf l g a b xs x hlo) rfl q319 q321 q320 q322 q9 q323 (n9 := 1) ⟨by decide, by decide, by decide +kernel⟩ rfl (hv1.1.rc hK rfl) ⟨⟨_, hf1⟩, dv_mI hM, ⟨hV1, hb1⟩, Nat.le_refl _, Nat.le_refl _⟩ ⟨⟨Nat.le_of_ble_eq_true rfl, Nat.le_of_ble_eq_true rfl⟩, Nat.le_of_ble_eq_true rfl⟩ rfl rfl dJ2_removeElement_12 (fun v h2 hS hf => ?_)
  obtain ⟨rfl, i, hi, rfl⟩ := hS
  refine dv_istore_n (pc := 15) cx dJ2_removeElement_15 rfl rfl ?_
  refine dv_iload_n (pc := 16) cx dJ2_removeElement_16 rfl rfl ?_
  refine dv_if_lt (tgt := 27) cx dJ2_removeElement_17 (by decide) (fun hc => ?_) (fun hc => ?_)
  · have hil : ¬ i < xs.length := fun z => by rw [if_pos z] at hc; exact nI_pos (by omega) hc
    refine dv_iconst (pc := 27) (v := 0) cx dJ2_removeElement_27 (by decide) ?_
    exact Ret _ _ _ _ _ _ _ (Nat.le_refl _) (Nat.le_refl _) ⟨i, hi, Or.inr ⟨by have := hi.1; omega, rfl, hV1⟩⟩ hf1 (dv_roz (Or.inl rfl) dJ2_removeElement_28)
  · have hil : i < xs.length := by
      rcases Nat.lt_or_ge i xs.length with z | z
      · exact z
      · rw [if_neg (by omega)] at hc; exact absurd (by decide) hc
    refine dv_aload_n (pc := 20) cx dJ2_removeElement_20 rfl rfl rfl ?_
    refine dv_iload_n (pc := 21) cx dJ2_removeElement_21 rfl rfl ?_
    rw [if_pos hil]
    refine dv_cUS (C := RJ3) (x := yJ2_removeElementAt) (rest := []) (av := [.int (nI i)]) cx hK (mt_v_removeAt l g a i xs hil hlo) rfl q329 q523 q249 q524 q9 q250 (n9 := 1) ⟨by decide, by decide, by decide +kernel⟩ rfl (hv1.1.rc hK rfl) ⟨⟨_, hf1⟩, dv_mI hM, hV1, Nat.le_refl _, Nat.le_refl _⟩ ⟨⟨Nat.le_of_ble_eq_true rfl, Nat.le_of_ble_eq_true rfl⟩, Nat.le_of_ble_eq_true rfl⟩ rfl rfl dJ2_removeElement_22 (fun v h3 hS hf => ?_)
    obtain ⟨rfl, hV3⟩ := hS
    refine dv_iconst (pc := 25) (v := 1) cx dJ2_removeElement_25 (by decide) ?_
    exact Ret _ _ _ _ _ _ _ (Nat.le_refl _) (Nat.le_refl _) ⟨i, hi, Or.inl ⟨hil, rfl, hV3⟩⟩ (hf1.trans hf) (dv_roz (Or.inr rfl) dJ2_removeElement_26)
/-- Stack.empty() -/
theorem mt_s_empty (l : Launch) (g : dv_P) (a : Nat) (xs : List Int32) (hn : xs.length ≤ 1700) (hlo : dv_lo g ≤ a) : dv_M l yJ3_empty (ws_ yJ3_empty cJ3_empty 1 (some .boolean)) 1 28 0 0 g [.ref a] [a] (fun h => dv_Ve g h a xs) [] (fun v h h1 => v = some (.int (if xs.length = 0 then 1 else 0)) ∧ h1 = h) := by
  refine dv_of (by decide +kernel) (dv_cat rfl) ?_
  intro p e s m args below meth c Q cx hnm hK hM hP Ret
  have hP' := hP
  obtain ⟨ea, q, f, w, hv, he⟩ := hP'
  refine dv_aload_n (pc := 0) cx dJ3_empty_0 rfl rfl rfl ?_
  refine dv_cUS (C := RJ3) (x := ⟨"java/util/Stack", "size", "()I"⟩) (rest := []) (av := []) cx hK (mt_v_size l g a xs hlo) rfl q224 q225 q228 q227 q9 q229 (n9 := 0) ⟨by decide, by decide, by decide +kernel⟩ rfl (hv.1.rc hK rfl) ⟨⟨[], dv_fr.rf⟩, dv_mI hM, hP, Nat.le_refl _, Nat.le_refl _⟩ ⟨⟨Nat.le_of_ble_eq_true rfl, Nat.le_of_ble_eq_true rfl⟩, Nat.le_of_ble_eq_true rfl⟩ rfl rfl dJ3_empty_1 (fun v h1 hS hf => ?_)
  obtain ⟨rfl, rfl⟩ := hS
  refine dv_if_ne (tgt := 11) cx dJ3_empty_4 (by decide) (fun hc => ?_) (fun hc => ?_)
  · refine dv_iconst (pc := 11) (v := 0) cx dJ3_empty_11 (by decide) ?_
    exact Ret _ _ _ _ _ _ _ (Nat.le_refl _) (Nat.le_refl _) ⟨by rw [if_neg (fun z => hc (by rw [z]; rfl))], rfl⟩ dv_fr.rf (dv_roz (Or.inl rfl) dJ3_empty_12)
  · refine dv_iconst (pc := 7) (v := 1) cx dJ3_empty_7 (by decide) ?_
    refine dv_goto (pc := 8) (tgt := 12) cx dJ3_empty_8 (by decide) ?_
    have e1 : xs.length = 0 := by
      rcases Nat.eq_zero_or_pos xs.length with z | z
      · exact z
      · exact absurd hc (nI_ne0 z (by omega))
    exact Ret _ _ _ _ _ _ _ (Nat.le_refl _) (Nat.le_refl _) ⟨by rw [if_pos e1], rfl⟩ dv_fr.rf (dv_roz (Or.inr rfl) dJ3_empty_12)
/-- Stack.peek(): the last box -/
theorem mt_s_peek (l : Launch) (g : dv_P) (a : Nat) (xs : List Int32) (x : Int32) (hn : xs.length ≤ 1700) (h0 : 0 < xs.length) (hx : xs[xs.length - 1]? = some x) (hlo : dv_lo g ≤ a) : dv_M l yJ3_peek (wsY_ yJ3_peek cJ3_peek 2 (some (.object "java/lang/Object"))) 2 56 0 0 g [.ref a] [a] (fun h => dv_Ve g h a xs) [] (dv_Sat g x) := by
  refine dv_ofS (by decide +kernel) (dv_cat rfl) q231 List.mem_cons_self hlo ?_
  intro p e s m args below meth c Q cx hnm hK hM hP Ret
  have hP' := hP
  obtain ⟨ea, q, f, w, hv, he⟩ := hP'
  refine dv_aload_n (pc := 0) cx dJ3_peek_0 rfl rfl rfl ?_
  refine dv_cUS (C := RJ3) (x := ⟨"java/util/Stack", "size", "()I"⟩) (rest := []) (av := []) cx hK (mt_v_size l g a xs hlo) rfl q224 q225 q228 q227 q9 q229 (n9 := 0) ⟨by decide, by decide, by decide +kernel⟩ rfl (hv.1.rc hK rfl) ⟨⟨[], dv_fr.rf⟩, dv_mI hM, hP, Nat.le_refl _, Nat.le_refl _⟩ ⟨⟨Nat.le_of_ble_eq_true rfl, Nat.le_of_ble_eq_true rfl⟩, Nat.le_of_ble_eq_true rfl⟩ rfl rfl dJ3_peek_1 (fun v h1 hS hf => ?_)
  obtain ⟨rfl, rfl⟩ := hS
  refine dv_istore_n (pc := 4) cx dJ3_peek_4 rfl rfl ?_
  refine dv_iload_n (pc := 5) cx dJ3_peek_5 rfl rfl ?_
  refine dv_if_ne (tgt := 17) cx dJ3_peek_6 (by decide) (fun _ => ?_) (fun hc => absurd hc (nI_ne0 h0 (by omega)))
  refine dv_aload_n (pc := 17) cx dJ3_peek_17 rfl rfl rfl ?_
  refine dv_iload_n (pc := 18) cx dJ3_peek_18 rfl rfl ?_
  refine dv_iconst (pc := 19) (v := 1) cx dJ3_peek_19 (by decide) ?_
  refine dv_isub (v := nI (xs.length - 1)) cx dJ3_peek_20 (by rw [show (1 : Int32) = nI 1 from rfl, pk_sub (by omega)]) ?_
  refine dv_cUS (C := RJ3) (x := ⟨"java/util/Stack", "elementAt", "(I)Ljava/lang/Object;"⟩) (rest := []) (av := [.int (nI (xs.length - 1))]) cx hK (mt_v_at l g a xs _ x hx hlo) rfl q234 q235 q238 q237 q9 q239 (n9 := 1) ⟨by decide, by decide, by decide +kernel⟩ rfl (hv.1.rc hK rfl) ⟨⟨[], dv_fr.rf⟩, dv_mI hM, hP, Nat.le_refl _, Nat.le_refl _⟩ ⟨⟨Nat.le_of_ble_eq_true rfl, Nat.le_of_ble_eq_true rfl⟩, Nat.le_of_ble_eq_true rfl⟩ rfl rfl dJ3_peek_21 (fun v h1 hS hf => ?_)
  obtain ⟨b, rfl, rfl, hb⟩ := hS
  exact Ret _ _ _ _ _ _ _ (Nat.le_refl _) (Nat.le_refl _) ⟨b, rfl, rfl, hb⟩ dv_fr.rf (dv_roa dJ3_peek_24)
/-- Stack.pop(): the last box goes -/
theorem mt_s_pop (l : Launch) (g : dv_P) (a : Nat) (xs : List Int32) (x : Int32) (hn : xs.length ≤ 1700) (h0 : 0 < xs.length) (hx : xs[xs.length - 1]? = some x) (hlo : dv_lo g ≤ a) : dv_M l yJ3_pop (wsY_ yJ3_pop cJ3_pop 3 (some (.object "java/lang/Object"))) 3 84 0 0 g [.ref a] [a] (fun h => dv_Ve g h a xs) (dv_kk g [1, 10]) (fun v h h1 => ∃ b, v = some (.ref b) ∧ dv_in g h1 b x ∧ dv_Ve g h1 a (xs.eraseIdx (xs.length - 1))) := by
  refine dv_ofS (by decide +kernel) (dv_cat rfl) q221 List.mem_cons_self hlo ?_
  intro p e s m args below meth c Q cx hnm hK hM hP Ret
  have ap := hK.ap
  have hP' := hP
  obtain ⟨ea, q, f, w, hv, he⟩ := hP'
  refine dv_aload_n (pc := 0) cx dJ3_pop_0 rfl rfl rfl ?_
  refine dv_cUS (C := RJ3) (x := ⟨"java/util/Stack", "size", "()I"⟩) (rest := []) (av := []) cx hK (mt_v_size l g a xs hlo) rfl q224 q225 q228 q227 q9 q229 (n9 := 0) ⟨by decide, by decide, by decide +kernel⟩ rfl (hv.1.rc hK rfl) ⟨⟨[], dv_fr.rf⟩, dv_mI hM, hP, Nat.le_refl _, Nat.le_refl _⟩ ⟨⟨Nat.le_of_ble_eq_true rfl, Nat.le_of_ble_eq_true rfl⟩, Nat.le_of_ble_eq_true rfl⟩ rfl rfl dJ3_pop_1 (fun v h1 hS hf => ?_)
  obtain ⟨rfl, rfl⟩ := hS
  refine dv_istore_n (pc := 4) cx dJ3_pop_4 rfl rfl ?_
  refine dv_aload_n (pc := 5) cx dJ3_pop_5 rfl rfl rfl ?_
  refine dv_cVS (C := RJ3) (rest := []) (av := []) cx hK (mt_s_peek l g a xs x hn h0 hx hlo) q230 q231 q232 q10 q233 (n9 := 0) ⟨by decide, by decide, by decide +kernel⟩ rfl (hv.1.rc hK rfl) ⟨⟨[], dv_fr.rf⟩, dv_mI hM, hP, Nat.le_refl _, Nat.le_refl _⟩ ⟨⟨Nat.le_of_ble_eq_true rfl, Nat.le_of_ble_eq_true rfl⟩, Nat.le_of_ble_eq_true rfl⟩ rfl rfl dJ3_pop_6 (fun v h1 hS hf => ?_)
  obtain ⟨b, rfl, rfl, hb⟩ := hS
  refine dv_astore_n (pc := 9) cx dJ3_pop_9 rfl rfl rfl rfl ?_
  refine dv_aload_n (pc := 10) cx dJ3_pop_10 rfl rfl rfl ?_
  refine dv_iload_n (pc := 11) cx dJ3_pop_11 rfl rfl ?_
  refine dv_iconst (pc := 12) (v := 1) cx dJ3_pop_12 (by decide) ?_
  refine dv_isub (v := nI (xs.length - 1)) cx dJ3_pop_13 (by rw [show (1 : Int32) = nI 1 from rfl, pk_sub (by omega)]) ?_
  refine dv_cUS (C := RJ3) (x := ⟨"java/util/Stack", "removeElementAt", "(I)V"⟩) (rest := []) (av := [.int (nI (xs.length - 1))]) cx hK (mt_v_removeAt l g a (xs.length - 1) xs (by omega) hlo) rfl q245 q246 q249 q248 q9 q250 (n9 := 1) ⟨by decide, by decide, by decide +kernel⟩ rfl (hv.1.rc hK rfl) ⟨⟨[], dv_fr.rf⟩, dv_mI hM, hP, Nat.le_refl _, Nat.le_refl _⟩ ⟨⟨Nat.le_of_ble_eq_true rfl, Nat.le_of_ble_eq_true rfl⟩, Nat.le_of_ble_eq_true rfl⟩ rfl rfl dJ3_pop_14 (fun v h2 hS hf2 => ?_)
  obtain ⟨rfl, hV2⟩ := hS
  refine dv_aload_n (pc := 17) cx dJ3_pop_17 rfl rfl rfl ?_
  exact Ret _ _ _ _ _ _ _ (Nat.le_refl _) (Nat.le_refl _) ⟨b, rfl, hb.fr hf2 (dv_nin ap 5 (by decide)), hV2⟩ hf2 (dv_roa dJ3_pop_18)
/-- Stack.search(o) -/
theorem mt_s_search (l : Launch) (g : dv_P) (a b : Nat) (xs : List Int32) (x : Int32) (hn : xs.length ≤ 1700) (hlo : dv_lo g ≤ a) : dv_M l yJ3_search (wsY_ yJ3_search cJ3_search 3 (some .int)) 4 112 0 0 g [.ref a, .ref b] [a] (fun h => dv_Ve g h a xs ∧ dv_in g h b x) [] (fun v h h1 => h1 = h ∧ ∃ k, dv_lst x xs k ∧ v = some (.int (if k = 0 then -1 else nI (xs.length - (k - 1))))) := by
  refine dv_ofS (by decide +kernel) (dv_cat rfl) q270 List.mem_cons_self hlo ?_
  intro p e s m args below meth c Q cx hnm hK hM hP Ret
  have hP' := hP
  obtain ⟨⟨ea, q, f, w, hv, he⟩, hb⟩ := hP'
  refine dv_aload_n (pc := 0) cx dJ3_search_0 rfl rfl rfl ?_
  refine dv_aload_n (pc := 1) cx dJ3_search_1 rfl rfl rfl ?_
  refine dv_cUS (C := RJ3) (x := ⟨"java/util/Stack", "lastIndexOf", "(Ljava/lang/Object;)I"⟩) (rest := []) (av := [.ref b]) cx hK (mt_v_lastIndexOf l g a b xs x hlo) rfl q273 q274 q277 q276 q9 q278 (n9 := 1) ⟨by decide, by decide, by decide +kernel⟩ rfl (hv.1.rc hK rfl) ⟨⟨[], dv_fr.rf⟩, dv_mI hM, hP, Nat.le_refl _, Nat.le_refl _⟩ ⟨⟨Nat.le_of_ble_eq_true rfl, Nat.le_of_ble_eq_true rfl⟩, Nat.le_of_ble_eq_true rfl⟩ rfl rfl dJ3_search_2 (fun v h1 hS hf => ?_)
  obtain ⟨rfl, k, hk, rfl⟩ := hS
  refine dv_istore_n (pc := 5) cx dJ3_search_5 rfl rfl ?_
  refine dv_iload_n (pc := 6) cx dJ3_search_6 rfl rfl ?_
  refine dv_if_lt (tgt := 17) cx dJ3_search_7 (by decide) (fun hc => ?_) (fun hc => ?_)
  · have hk0 : k = 0 := by
      cases k with
      | zero => rfl
      | succ k => rw [nI_pred] at hc; exact absurd hc (nI_pos (by have := hk.1; omega))
    refine dv_iconst (pc := 17) (v := (-1)) cx dJ3_search_17 (by decide) ?_
    exact Ret _ _ _ _ _ _ _ (Nat.le_refl _) (Nat.le_refl _) ⟨rfl, k, hk, by rw [if_pos hk0]⟩ dv_fr.rf (dv_roi dJ3_search_18)
  · have hk0 : k ≠ 0 := fun z => by rw [z] at hc; exact absurd (by decide) hc
    obtain ⟨k', rfl⟩ : ∃ k', k = k' + 1 := ⟨k - 1, by omega⟩
    have hkl := hk.1
    refine dv_aload_n (pc := 10) cx dJ3_search_10 rfl rfl rfl ?_
    refine dv_cUS (C := RJ3) (x := ⟨"java/util/Stack", "size", "()I"⟩) (rest := []) (av := []) cx hK (mt_v_size l g a xs hlo) rfl q224 q225 q228 q227 q9 q229 (n9 := 0) ⟨by decide, by decide, by decide +kernel⟩ rfl (hv.1.rc hK rfl) ⟨⟨[], dv_fr.rf⟩, dv_mI hM, hP.1, Nat.le_refl _, Nat.le_refl _⟩ ⟨⟨Nat.le_of_ble_eq_true rfl, Nat.le_of_ble_eq_true rfl⟩, Nat.le_of_ble_eq_true rfl⟩ rfl rfl dJ3_search_11 (fun v h1 hS hf => ?_)
    obtain ⟨rfl, rfl⟩ := hS
    refine dv_iload_n (pc := 14) cx dJ3_search_14 rfl rfl ?_
    refine dv_isub (v := nI (xs.length - k')) cx dJ3_search_15 (by rw [nI_pred, pk_sub (by omega)]) ?_
    exact Ret _ _ _ _ _ _ _ (Nat.le_refl _) (Nat.le_refl _) ⟨rfl, k' + 1, hk, by rw [if_neg hk0, Nat.add_sub_cancel]⟩ dv_fr.rf (dv_roi dJ3_search_16)
end
section
/-! ===== the hash table's picture: chains, buckets, entries; plain laws of lists ===== -/
set_option maxRecDepth 100000
/-- an entry: its address, its key's box, the key, its value's box, the value -/
abbrev dv_E : Type := Nat × Nat × Int32 × Nat × Int32
abbrev dv_ek (x : dv_E) : Int32 := x.2.2.1
abbrev dv_ev (x : dv_E) : Int32 := x.2.2.2.2
abbrev dv_kv (x : dv_E) : Int32 × Int32 := (x.2.2.1, x.2.2.2.2)
def dv_hd : List dv_E → Option Nat
  | [] => none
  | x :: _ => some x.1
def dv_en3 (g : dv_P) (h : dv_H) (x : dv_E) (o : Option Nat) : Prop := dv_ob g h x.1 3 4 [.int x.2.2.1, .ref x.2.1, .ref x.2.2.2.1, va_rf o] ∧ dv_in g h x.2.1 x.2.2.1 ∧ dv_in g h x.2.2.2.1 x.2.2.2.2 ∧ dv_lo g ≤ x.1
def dv_ch (g : dv_P) (h : dv_H) : List dv_E → Prop
  | [] => True
  | x :: t => dv_en3 g h x (dv_hd t) ∧ dv_ch g h t
/-- all entries, the highest bucket first -/
def dv_fl (L : Nat → List dv_E) : Nat → List dv_E
  | 0 => []
  | n + 1 => L n ++ dv_fl L n
/-- the bucket of a key among q -/
def dv_ix (k : Int32) (q : Nat) : Nat := k.toBitVec.toNat % 2 ^ 31 % q
theorem dv_ix_lt (k : Int32) {q : Nat} (hq : 0 < q) : dv_ix k q < q := Nat.mod_lt _ hq
theorem dv_ix_rem (k : Int32) {q : Nat} (h0 : 0 < q) (hq : q < 2 ^ 31) : (k &&& 2147483647) - (k &&& 2147483647) / nI q * nI q = nI (dv_ix k q) := by
  rw [pk_and k (m := 2147483647) 31 (by decide)]
  exact pk_rem (Nat.mod_lt _ (by decide)) h0 hq
theorem dv_rfR (o : Option Nat) : (va_rf o).isRef = true := by cases o <;> rfl
theorem dv_rfC (o : Option Nat) : (va_rf o).category = 1 := by cases o <;> rfl
theorem dv_mem_fl {L : Nat → List dv_E} {x : dv_E} : ∀ {q : Nat}, x ∈ dv_fl L q ↔ ∃ i, i < q ∧ x ∈ L i
  | 0 => by simp [dv_fl]
  | q + 1 => by
    rw [dv_fl, List.mem_append, dv_mem_fl]
    constructor
    · rintro (h | ⟨i, h1, h2⟩)
      · exact ⟨q, by omega, h⟩
      · exact ⟨i, by omega, h2⟩
    · rintro ⟨i, h1, h2⟩
      by_cases e : i = q
      · subst e; exact Or.inl h2
      · exact Or.inr ⟨i, by omega, h2⟩
theorem dv_fl_congr {L L' : Nat → List dv_E} : ∀ {q : Nat}, (∀ i, i < q → L i = L' i) → dv_fl L q = dv_fl L' q
  | 0, _ => rfl
  | q + 1, h => by rw [dv_fl, dv_fl, h q (by omega), dv_fl_congr (fun i hi => h i (by omega))]
/-- all entries but those of bucket i -/
abbrev dv_re (L : Nat → List dv_E) (i q : Nat) : List dv_E := dv_fl (va_up L i []) q
theorem dv_fl_perm (L : Nat → List dv_E) (i : Nat) (l : List dv_E) : ∀ {q : Nat}, i < q → (dv_fl (va_up L i l) q).Perm (l ++ dv_re L i q)
  | 0, h => absurd h (by omega)
  | q + 1, h => by
    by_cases e : i = q
    · subst e
      have e1 : dv_fl (va_up L i l) i = dv_fl L i := dv_fl_congr (fun j hj => dv_upn (by omega))
      have e2 : dv_fl (va_up L i []) i = dv_fl L i := dv_fl_congr (fun j hj => dv_upn (by omega))
      show (va_up L i l i ++ dv_fl (va_up L i l) i).Perm (l ++ (va_up L i [] i ++ dv_fl (va_up L i []) i))
      rw [dv_ups, dv_ups, e1, e2, List.nil_append]
    · show (va_up L i l q ++ dv_fl (va_up L i l) q).Perm (l ++ (va_up L i [] q ++ dv_fl (va_up L i []) q))
      rw [dv_upn (Ne.symm e), dv_upn (Ne.symm e)]
      have ih := dv_fl_perm L i l (q := q) (by omega)
      exact ((List.Perm.refl (L q)).append ih).trans (by rw [← List.append_assoc, ← List.append_assoc]; exact List.Perm.append_right _ List.perm_append_comm)
theorem dv_up_id {α : Type} (f : Nat → α) (i : Nat) : va_up f i (f i) = f := by
  funext j
  by_cases e : j = i
  · rw [e, dv_ups]
  · rw [dv_upn e]
theorem dv_fl_at (L : Nat → List dv_E) {i q : Nat} (h : i < q) : (dv_fl L q).Perm (L i ++ dv_re L i q) := by
  have := dv_fl_perm L i (L i) h
  rw [dv_up_id] at this
  exact this
theorem dv_ch.mem {g : dv_P} {h : dv_H} {x : dv_E} : ∀ {l : List dv_E}, dv_ch g h l → x ∈ l → ∃ o, dv_en3 g h x o
  | [], _, hx => absurd hx List.not_mem_nil
  | y :: t, hc, hx => by
    rcases List.mem_cons.mp hx with rfl | hx
    · exact ⟨_, hc.1⟩
    · exact dv_ch.mem hc.2 hx
theorem dv_en3.kp {g : dv_P} {h h1 : dv_H} {x : dv_E} {o : Option Nat} {ks : List ClassId} (e : dv_en3 g h x o) (hx : h1 x.1 = h x.1) (hf : dv_fr (dv_lo g) ks h h1) (hk : dv_k g 5 ∉ ks) : dv_en3 g h1 x o :=
  ⟨e.1.kept hx, e.2.1.fr hf hk, e.2.2.1.fr hf hk, e.2.2.2⟩
theorem dv_ch.kp {g : dv_P} {h h1 : dv_H} {ks : List ClassId} (hf : dv_fr (dv_lo g) ks h h1) (hk : dv_k g 5 ∉ ks) : ∀ {l : List dv_E}, dv_ch g h l → (∀ x ∈ l, h1 x.1 = h x.1) → dv_ch g h1 l
  | [], _, _ => trivial
  | _ :: _, hc, hx => ⟨hc.1.kp (hx _ List.mem_cons_self) hf hk, dv_ch.kp hf hk hc.2 (fun y hy => hx y (List.mem_cons_of_mem _ hy))⟩
/-- class by class -/
theorem dv_ch.fr {g : dv_P} {h h1 : dv_H} {ks : List ClassId} (hf : dv_fr (dv_lo g) ks h h1) (hk : dv_k g 5 ∉ ks) (hk3 : dv_k g 3 ∉ ks) {l : List dv_E} (hc : dv_ch g h l) : dv_ch g h1 l := by
  refine dv_ch.kp hf hk hc (fun x hx => ?_)
  obtain ⟨o, ⟨y, h1, h2, -⟩, -⟩ := hc.mem hx
  rw [hf.at h1 (Or.inr (by rw [h2]; exact hk3)), h1]
/-- the buckets: chains, each entry in its key's bucket, addresses and keys differ -/
def dv_bk (g : dv_P) (h : dv_H) (L : Nat → List dv_E) (q : Nat) : Prop := (∀ i, i < q → dv_ch g h (L i)) ∧ (∀ i, i < q → ∀ x ∈ L i, dv_ix (dv_ek x) q = i) ∧ ((dv_fl L q).map (·.1)).Nodup ∧ ((dv_fl L q).map dv_ek).Nodup
/-- the table at t -/
def dv_tr (g : dv_P) (h : dv_H) (t ta q : Nat) (L : Nat → List dv_E) (w : Int32) : Prop :=
  dv_ob g h t 2 8 [.ref ta, .int (nI (dv_fl L q).length), .int (nI (3 * q / 4)), .float 1061158912, .int w, .null, .null, .null] ∧ h ta = some (arrV (dv_k g 11) q (fun i => va_rf (dv_hd (L i)))) ∧ dv_lo g ≤ t ∧ dv_lo g ≤ ta ∧ (∃ j, j ≤ 8 ∧ q = 12 * 2 ^ j - 1) ∧ dv_bk g h L q
/-- the table at t holds the pairs kv, in any order -/
def dv_Ta (g : dv_P) (h : dv_H) (t : Nat) (kv : List (Int32 × Int32)) : Prop := ∃ ta q L w, dv_tr g h t ta q L w ∧ ((dv_fl L q).map dv_kv).Perm kv
theorem dv_tr.q {g : dv_P} {h : dv_H} {t ta q : Nat} {L : Nat → List dv_E} {w : Int32} (v : dv_tr g h t ta q L w) : 0 < q ∧ q ≤ 3071 := by
  obtain ⟨-, -, -, -, ⟨j, hj, rfl⟩, -⟩ := v
  have h1 := dv_pow8 hj
  have h2 := Nat.one_le_two_pow (n := j)
  omega
theorem dv_tr.fr {g : dv_P} {h h1 : dv_H} {t ta q : Nat} {L : Nat → List dv_E} {w : Int32} {js : List Nat} (v : dv_tr g h t ta q L w) (ap : dv_ap g) (hf : dv_fr (dv_lo g) (dv_kk g js) h h1) (hj : ([2, 3, 5, 11].all (fun i => js.all (fun j => decide (j ∈ dv_nos) && decide (i ≠ j)))) = true) : dv_tr g h1 t ta q L w := by
  obtain ⟨h1, h2, h3, h4, h5, b1, b2⟩ := v
  simp only [List.all_cons, List.all_nil, Bool.and_true, Bool.and_eq_true] at hj
  have n2 := dv_nin ap 2 (js := js) (by rw [Bool.and_eq_true]; exact ⟨by decide, hj.1⟩)
  have n3 := dv_nin ap 3 (js := js) (by rw [Bool.and_eq_true]; exact ⟨by decide, hj.2.1⟩)
  have n5 := dv_nin ap 5 (js := js) (by rw [Bool.and_eq_true]; exact ⟨by decide, hj.2.2.1⟩)
  have n11 := dv_nin ap 11 (js := js) (by rw [Bool.and_eq_true]; exact ⟨by decide, hj.2.2.2⟩)
  exact ⟨h1.fr hf n2, hf.at h2 (Or.inr n11), h3, h4, h5, fun i hi => (b1 i hi).fr hf n5 n3, b2⟩
theorem dv_Ta.fr {g : dv_P} {h h1 : dv_H} {t : Nat} {kv : List (Int32 × Int32)} {js : List Nat} (v : dv_Ta g h t kv) (ap : dv_ap g) (hf : dv_fr (dv_lo g) (dv_kk g js) h h1) (hj : ([2, 3, 5, 11].all (fun i => js.all (fun j => decide (j ∈ dv_nos) && decide (i ≠ j)))) = true) : dv_Ta g h1 t kv := by
  obtain ⟨ta, q, L, w, h1, h2⟩ := v
  exact ⟨ta, q, L, w, h1.fr ap hf hj, h2⟩
theorem dv_Ta.perm {g : dv_P} {h : dv_H} {t : Nat} {kv kv' : List (Int32 × Int32)} (v : dv_Ta g h t kv) (hp : kv.Perm kv') : dv_Ta g h t kv' := by
  obtain ⟨ta, q, L, w, h1, h2⟩ := v
  exact ⟨ta, q, L, w, h1, h2.trans hp⟩
/-- a key that is in the table stands in its bucket -/
theorem dv_tr.find {g : dv_P} {h : dv_H} {t ta q : Nat} {L : Nat → List dv_E} {w : Int32} {kv : List (Int32 × Int32)} (v : dv_tr g h t ta q L w) (hp : ((dv_fl L q).map dv_kv).Perm kv) {k z : Int32} : (k, z) ∈ kv ↔ ∃ x ∈ L (dv_ix k q), dv_kv x = (k, z) := by
  rw [← hp.mem_iff, List.mem_map]
  constructor
  · rintro ⟨x, hx, e⟩
    obtain ⟨i, hi, hx⟩ := dv_mem_fl.mp hx
    have e1 : dv_ek x = k := congrArg Prod.fst e
    have e2 := v.2.2.2.2.2.2.1 i hi x hx
    rw [e1] at e2
    rw [e2]
    exact ⟨x, hx, e⟩
  · rintro ⟨x, hx, e⟩
    exact ⟨x, dv_mem_fl.mpr ⟨_, dv_ix_lt k v.q.1, hx⟩, e⟩
theorem dv_nodup_map_perm {α β : Type} {f : α → β} {l l' : List α} (hp : l.Perm l') (h : (l.map f).Nodup) : (l'.map f).Nodup := (hp.map f).nodup_iff.mp h
end
section
/-! ===== Hashtable: size, isEmpty, get, containsKey, contains ===== -/
set_option maxRecDepth 100000
/-- size() -/
theorem mt_t_size (l : Launch) (g : dv_P) (t : Nat) (kv : List (Int32 × Int32)) (hlo : dv_lo g ≤ t) : dv_M l yJ5_size (wsY_ yJ5_size cJ5_size 1 (some .int)) 0 0 0 0 g [.ref t] [t] (fun h => dv_Ta g h t kv) [] (fun v h h1 => v = some (.int (nI kv.length)) ∧ h1 = h) := by
  refine dv_ofS (by decide +kernel) (dv_cat rfl) q433 List.mem_cons_self hlo ?_
  intro p e s m args below meth c Q cx hnm hK hM hP Ret
  obtain ⟨ta, q, L, w, hv, hp⟩ := hP
  have e1 : (dv_fl L q).length = kv.length := by rw [← hp.length_eq, List.length_map]
  refine dv_aload_n (pc := 0) cx dJ5_size_0 rfl rfl rfl ?_
  refine gf_100 cx hK hv.1 dJ5_size_1 ?_
  exact Ret _ _ _ _ _ _ _ (Nat.le_refl _) (Nat.le_refl _) ⟨by rw [e1], rfl⟩ dv_fr.rf (dv_roi dJ5_size_4)
/-- isEmpty() -/
theorem mt_t_isEmpty (l : Launch) (g : dv_P) (t : Nat) (kv : List (Int32 × Int32)) (hn : kv.length ≤ 1700) (hlo : dv_lo g ≤ t) : dv_M l yJ5_isEmpty (wsY_ yJ5_isEmpty cJ5_isEmpty 1 (some .boolean)) 0 0 0 0 g [.ref t] [t] (fun h => dv_Ta g h t kv) [] (fun v h h1 => v = some (.int (if kv.length = 0 then 1 else 0)) ∧ h1 = h) := by
  refine dv_ofS (by decide +kernel) (dv_cat rfl) q441 List.mem_cons_self hlo ?_
  intro p e s m args below meth c Q cx hnm hK hM hP Ret
  obtain ⟨ta, q, L, w, hv, hp⟩ := hP
  have e1 : (dv_fl L q).length = kv.length := by rw [← hp.length_eq, List.length_map]
  refine dv_aload_n (pc := 0) cx dJ5_isEmpty_0 rfl rfl rfl ?_
  refine gf_100 cx hK hv.1 dJ5_isEmpty_1 ?_
  rw [e1]
  refine dv_if_ne (tgt := 11) cx dJ5_isEmpty_4 (by decide) (fun hc => ?_) (fun hc => ?_)
  · refine dv_iconst (pc := 11) (v := 0) cx dJ5_isEmpty_11 (by decide) ?_
    exact Ret _ _ _ _ _ _ _ (Nat.le_refl _) (Nat.le_refl _) ⟨by rw [if_neg (fun z => hc (by rw [z]; rfl))], rfl⟩ dv_fr.rf (dv_roz (Or.inl rfl) dJ5_isEmpty_12)
  · refine dv_iconst (pc := 7) (v := 1) cx dJ5_isEmpty_7 (by decide) ?_
    refine dv_goto (pc := 8) (tgt := 12) cx dJ5_isEmpty_8 (by decide) ?_
    have e2 : kv.length = 0 := by
      rcases Nat.eq_zero_or_pos kv.length with z | z
      · exact z
      · exact absurd hc (nI_ne0 z (by omega))
    exact Ret _ _ _ _ _ _ _ (Nat.le_refl _) (Nat.le_refl _) ⟨by rw [if_pos e2], rfl⟩ dv_fr.rf (dv_roz (Or.inr rfl) dJ5_isEmpty_12)
/-- what a look-up of k answers: the box of its value, or null -/
abbrev dv_Lk (g : dv_P) (kv : List (Int32 × Int32)) (k : Int32) (v : Option Value) (h : dv_H) : Prop := (∃ z b, (k, z) ∈ kv ∧ v = some (.ref b) ∧ dv_in g h b z) ∨ ((∀ z, (k, z) ∉ kv) ∧ v = some .null)
theorem dv_tr.none {g : dv_P} {h : dv_H} {t ta q : Nat} {L : Nat → List dv_E} {w : Int32} {kv : List (Int32 × Int32)} (v : dv_tr g h t ta q L w) (hp : ((dv_fl L q).map dv_kv).Perm kv) {k : Int32} (hno : ∀ y ∈ L (dv_ix k q), dv_ek y ≠ k) : ∀ z, (k, z) ∉ kv := by
  intro z hz
  obtain ⟨x, hx, e⟩ := (v.find hp).mp hz
  exact hno x hx (congrArg Prod.fst e)
/-- get(k) -/
theorem mt_t_get (l : Launch) (g : dv_P) (t b : Nat) (kv : List (Int32 × Int32)) (k : Int32) (hlo : dv_lo g ≤ t) : dv_M l yJ5_get (wsY_ yJ5_get cJ5_get 6 (some (.object "java/lang/Object"))) 2 56 0 0 g [.ref t, .ref b] [t] (fun h => dv_Ta g h t kv ∧ dv_in g h b k) [] (fun v h h1 => h1 = h ∧ dv_Lk g kv k v h) := by
  refine dv_ofS (by decide +kernel) (dv_cat rfl) q401 List.mem_cons_self hlo ?_
  intro p e s m args below meth c Q cx hnm hK hM hP Ret
  obtain ⟨⟨ta, q, L, w, hv, hp⟩, hb⟩ := hP
  obtain ⟨hq0, hq1⟩ := hv.q
  have hix := dv_ix_lt k hq0
  have hch := hv.2.2.2.2.2.1 _ hix
  have loop : ∀ (rs pre : List dv_E), L (dv_ix k q) = pre ++ rs → (∀ y ∈ pre, dv_ek y ≠ k) → dv_ch g (dv_ct s.heap) rs →
      dv_V (dv_lo g) p l e (dv_rm 2 56 0 0) s m args below meth c (dv_ct s.heap) 0 0 Q (dv_G (some t) 1 m 25 [.val (.ref t), .val (.ref b), .val (.ref ta), .val (.int k), .val (.int (nI (dv_ix k q))), .val (va_rf (dv_hd rs))] []) := by
    intro rs
    induction rs with
    | nil =>
      intro pre hpre hno _
      refine dv_aload (pc := 25) (v := .null) cx dJ5_get_25 rfl rfl ?_
      refine dv_ifnullN (tgt := 67) cx dJ5_get_27 (by decide) ?_
      refine dv_null (pc := 67) cx dJ5_get_67 ?_
      exact Ret _ _ _ _ _ _ _ (Nat.le_refl _) (Nat.le_refl _) ⟨rfl, Or.inr ⟨hv.none hp (fun y hy => hno y (by rw [hpre, List.append_nil] at hy; exact hy)), rfl⟩⟩ dv_fr.rf (dv_roq dJ5_get_68)
    | cons x r ih =>
      intro pre hpre hno hc
      obtain ⟨⟨ho, hik, hiv, hxlo⟩, hcr⟩ := hc
      refine dv_aload (pc := 25) (v := .ref x.1) cx dJ5_get_25 rfl rfl ?_
      refine dv_ifnull cx dJ5_get_27 ?_
      refine dv_aload (pc := 30) (v := .ref x.1) cx dJ5_get_30 rfl rfl ?_
      refine gf_377 cx hK ho dJ5_get_32 ?_
      refine dv_iload_n (pc := 35) cx dJ5_get_35 rfl rfl ?_
      have next : dv_ek x ≠ k → dv_V (dv_lo g) p l e (dv_rm 2 56 0 0) s m args below meth c (dv_ct s.heap) 0 0 Q (dv_G (some t) 1 m 57 [.val (.ref t), .val (.ref b), .val (.ref ta), .val (.int k), .val (.int (nI (dv_ix k q))), .val (va_rf (dv_hd (x :: r)))] []) := by
        intro hne
        refine dv_aload (pc := 57) (v := .ref x.1) cx dJ5_get_57 rfl rfl ?_
        refine gf_386 cx hK ho dJ5_get_59 ?_
        refine dv_astore (pc := 62) cx dJ5_get_62 rfl (dv_rfR _) (dv_rfC _) ?_
        refine dv_goto (pc := 64) (tgt := 25) cx dJ5_get_64 (by decide) ?_
        exact ih (pre ++ [x]) (by rw [hpre, List.append_assoc]; rfl) (fun y hy => by
          rcases List.mem_append.mp hy with z | z
          · exact hno y z
          · rw [List.mem_singleton.mp z]; exact hne) hcr
      refine dv_icmp_ne (tgt := 57) cx dJ5_get_36 (by decide) (fun hc => next hc) (fun hc => ?_)
      refine dv_aload (pc := 39) (v := .ref x.1) cx dJ5_get_39 rfl rfl ?_
      refine gf_380 cx hK ho dJ5_get_41 ?_
      refine dv_aload_n (pc := 44) cx dJ5_get_44 rfl rfl rfl ?_
      refine dv_cO (C := RJ9) (x := dv_xEq) (rest := []) (av := [.ref b]) cx hK (mt_equals l g x.2.1 b x.2.2.1 k) hK.2.2.1.2.2.2.2.2.2.2.2.1 q361 q287 q290 q289 q16 q291 (n9 := 1) ⟨by decide, by decide, by decide +kernel⟩ rfl (hik.rc hK) ⟨⟨[], dv_fr.rf⟩, dv_m0, ⟨hik, hb⟩, Nat.le_refl _, Nat.le_refl _⟩ ⟨⟨Nat.le_of_ble_eq_true rfl, Nat.le_of_ble_eq_true rfl⟩, Nat.le_of_ble_eq_true rfl⟩ rfl rfl dJ5_get_45 (fun v h1 hS hf => ?_)
      obtain ⟨rfl, rfl⟩ := hS
      rw [if_pos hc]
      refine dv_if_eq (tgt := 57) cx dJ5_get_48 (by decide) (fun z => absurd z (by decide)) (fun _ => ?_)
      refine dv_aload (pc := 51) (v := .ref x.1) cx dJ5_get_51 rfl rfl ?_
      refine gf_383 cx hK ho dJ5_get_53 ?_
      exact Ret _ _ _ _ _ _ _ (Nat.le_refl _) (Nat.le_refl _) ⟨rfl, Or.inl ⟨dv_ev x, _, (hv.find hp).mpr ⟨x, by rw [hpre]; exact List.mem_append_right _ List.mem_cons_self, congrArg (fun z => (z, dv_ev x)) hc⟩, rfl, hiv⟩⟩ dv_fr.rf (dv_roa dJ5_get_56)
  refine dv_aload_n (pc := 0) cx dJ5_get_0 rfl rfl rfl ?_
  refine gf_99 cx hK hv.1 dJ5_get_1 ?_
  refine dv_astore_n (pc := 4) cx dJ5_get_4 rfl rfl rfl rfl ?_
  refine dv_aload_n (pc := 5) cx dJ5_get_5 rfl rfl rfl ?_
  refine dv_cO (C := RJ9) (x := dv_xHc) (rest := []) (av := []) cx hK (mt_hashCode l g b k) hK.2.2.1.2.2.2.2.2.2.2.2.2.1 q349 q351 q354 q353 q16 q355 (n9 := 0) ⟨by decide, by decide, by decide +kernel⟩ rfl (hb.rc hK) ⟨⟨[], dv_fr.rf⟩, dv_m0, hb, Nat.le_refl _, Nat.le_refl _⟩ ⟨⟨Nat.le_of_ble_eq_true rfl, Nat.le_of_ble_eq_true rfl⟩, Nat.le_of_ble_eq_true rfl⟩ rfl rfl dJ5_get_6 (fun v h1 hS hf => ?_)
  obtain ⟨rfl, rfl⟩ := hS
  refine dv_istore_n (pc := 9) cx dJ5_get_9 rfl rfl ?_
  refine dv_iload_n (pc := 10) cx dJ5_get_10 rfl rfl ?_
  refine dv_ldc (pc := 11) cx q360 dJ5_get_11 ?_
  refine dv_iand (pc := 13) cx dJ5_get_13 rfl ?_
  refine dv_aload_n (pc := 14) cx dJ5_get_14 rfl rfl rfl ?_
  refine dv_alen (v := nI q) cx hK 1 rfl hv.2.1 rfl dJ5_get_15 ?_
  refine dv_irem (v := nI (dv_ix k q)) cx dJ5_get_16 (nI_ne0 hq0 (by omega)) (dv_ix_rem k hq0 (by omega)) ?_
  refine dv_istore (pc := 17) cx dJ5_get_17 rfl ?_
  refine dv_aload_n (pc := 19) cx dJ5_get_19 rfl rfl rfl ?_
  refine dv_iload (pc := 20) cx dJ5_get_20 rfl ?_
  refine dv_aald (i := dv_ix k q) (v := va_rf (dv_hd (L (dv_ix k q)))) cx hK 1 rfl hv.2.1 rfl hix (by omega) rfl dJ5_get_22 ?_
  refine dv_astore (pc := 23) cx dJ5_get_23 rfl (dv_rfR _) (dv_rfC _) ?_
  exact loop (L (dv_ix k q)) [] rfl (fun y hy => absurd hy List.not_mem_nil) hch
/-- containsKey(k) -/
theorem mt_t_containsKey (l : Launch) (g : dv_P) (t b : Nat) (kv : List (Int32 × Int32)) (k : Int32) (hlo : dv_lo g ≤ t) : dv_M l yJ5_containsKey (wsY_ yJ5_containsKey cJ5_containsKey 6 (some .boolean)) 2 56 0 0 g [.ref t, .ref b] [t] (fun h => dv_Ta g h t kv ∧ dv_in g h b k) [] (fun v h h1 => h1 = h ∧ (((∃ z, (k, z) ∈ kv) ∧ v = some (.int 1)) ∨ ((∀ z, (k, z) ∉ kv) ∧ v = some (.int 0)))) := by
  refine dv_ofS (by decide +kernel) (dv_cat rfl) q425 List.mem_cons_self hlo ?_
  intro p e s m args below meth c Q cx hnm hK hM hP Ret
  obtain ⟨⟨ta, q, L, w, hv, hp⟩, hb⟩ := hP
  obtain ⟨hq0, hq1⟩ := hv.q
  have hix := dv_ix_lt k hq0
  have hch := hv.2.2.2.2.2.1 _ hix
  have loop : ∀ (rs pre : List dv_E), L (dv_ix k q) = pre ++ rs → (∀ y ∈ pre, dv_ek y ≠ k) → dv_ch g (dv_ct s.heap) rs →
      dv_V (dv_lo g) p l e (dv_rm 2 56 0 0) s m args below meth c (dv_ct s.heap) 0 0 Q (dv_G (some t) 1 m 25 [.val (.ref t), .val (.ref b), .val (.ref ta), .val (.int k), .val (.int (nI (dv_ix k q))), .val (va_rf (dv_hd rs))] []) := by
    intro rs
    induction rs with
    | nil =>
      intro pre hpre hno _
      refine dv_aload (pc := 25) (v := .null) cx dJ5_containsKey_25 rfl rfl ?_
      refine dv_ifnullN (tgt := 63) cx dJ5_containsKey_27 (by decide) ?_
      refine dv_iconst (pc := 63) (v := 0) cx dJ5_containsKey_63 (by decide) ?_
      exact Ret _ _ _ _ _ _ _ (Nat.le_refl _) (Nat.le_refl _) ⟨rfl, Or.inr ⟨hv.none hp (fun y hy => hno y (by rw [hpre, List.append_nil] at hy; exact hy)), rfl⟩⟩ dv_fr.rf (dv_roz (Or.inl rfl) dJ5_containsKey_64)
    | cons x r ih =>
      intro pre hpre hno hc
      obtain ⟨⟨ho, hik, hiv, hxlo⟩, hcr⟩ := hc
      refine dv_aload (pc := 25) (v := .ref x.1) cx dJ5_containsKey_25 rfl rfl ?_
      refine dv_ifnull cx dJ5_containsKey_27 ?_
      refine dv_aload (pc := 30) (v := .ref x.1) cx dJ5_containsKey_30 rfl rfl ?_
      refine gf_377 cx hK ho dJ5_containsKey_32 ?_
      refine dv_iload_n (pc := 35) cx dJ5_containsKey_35 rfl rfl ?_
      have next : dv_ek x ≠ k → dv_V (dv_lo g) p l e (dv_rm 2 56 0 0) s m args below meth c (dv_ct s.heap) 0 0 Q (dv_G (some t) 1 m 53 [.val (.ref t), .val (.ref b), .val (.ref ta), .val (.int k), .val (.int (nI (dv_ix k q))), .val (va_rf (dv_hd (x :: r)))] []) := by
        intro hne
        refine dv_aload (pc := 53) (v := .ref x.1) cx dJ5_containsKey_53 rfl rfl ?_
        refine gf_386 cx hK ho dJ5_containsKey_55 ?_
        refine dv_astore (pc := 58) cx dJ5_containsKey_58 rfl (dv_rfR _) (dv_rfC _) ?_
        refine dv_goto (pc := 60) (tgt := 25) cx dJ5_containsKey_60 (by decide) ?_
        exact ih (pre ++ [x]) (by rw [hpre, List.append_assoc]; rfl) (fun y hy => by
          rcases List.mem_append.mp hy with z | z
          · exact hno y z
          · rw [List.mem_singleton.mp z]; exact hne) hcr
      refine dv_icmp_ne (tgt := 53) cx dJ5_containsKey_36 (by decide) (fun hc => next hc) (fun hc => ?_)
      refine dv_aload (pc := 39) (v := .ref x.1) cx dJ5_containsKey_39 rfl rfl ?_
      refine gf_380 cx hK ho dJ5_containsKey_41 ?_
      refine dv_aload_n (pc := 44) cx dJ5_containsKey_44 rfl rfl rfl ?_
      refine dv_cO (C := RJ9) (x := dv_xEq) (rest := []) (av := [.ref b]) cx hK (mt_equals l g x.2.1 b x.2.2.1 k) hK.2.2.1.2.2.2.2.2.2.2.2.1 q361 q287 q290 q289 q16 q291 (n9 := 1) ⟨by decide, by decide, by decide +kernel⟩ rfl (hik.rc hK) ⟨⟨[], dv_fr.rf⟩, dv_m0, ⟨hik, hb⟩, Nat.le_refl _, Nat.le_refl _⟩ ⟨⟨Nat.le_of_ble_eq_true rfl, Nat.le_of_ble_eq_true rfl⟩, Nat.le_of_ble_eq_true rfl⟩ rfl rfl dJ5_containsKey_45 (fun v h1 hS hf => ?_)
      obtain ⟨rfl, rfl⟩ := hS
      rw [if_pos hc]
      refine dv_if_eq (tgt := 53) cx dJ5_containsKey_48 (by decide) (fun z => absurd z (by decide)) (fun _ => ?_)
      refine dv_iconst (pc := 51) (v := 1) cx dJ5_containsKey_51 (by decide) ?_
      exact Ret _ _ _ _ _ _ _ (Nat.le_refl _) (Nat.le_refl _) ⟨rfl, Or.inl ⟨⟨dv_ev x, (hv.find hp).mpr ⟨x, by rw [hpre]; exact List.mem_append_right _ List.mem_cons_self, congrArg (fun z => (z, dv_ev x)) hc⟩⟩, rfl⟩⟩ dv_fr.rf (dv_roz (Or.inr rfl) dJ5_containsKey_52)
  refine dv_aload_n (pc := 0) cx dJ5_containsKey_0 rfl rfl rfl ?_
  refine gf_99 cx hK hv.1 dJ5_containsKey_1 ?_
  refine dv_astore_n (pc := 4) cx dJ5_containsKey_4 rfl rfl rfl rfl ?_
  refine dv_aload_n (pc := 5) cx dJ5_containsKey_5 rfl rfl rfl ?_
  refine dv_cO (C := RJ9) (x := dv_xHc) (rest := []) (av := []) cx hK (mt_hashCode l g b k) hK.2.2.1.2.2.2.2.2.2.2.2.2.1 q349 q351 q354 q353 q16 q355 (n9 := 0) ⟨by decide, by decide, by decide +kernel⟩ rfl (hb.rc hK) ⟨⟨[], dv_fr.rf⟩, dv_m0, hb, Nat.le_refl _, Nat.le_refl _⟩ ⟨⟨Nat.le_of_ble_eq_true rfl, Nat.le_of_ble_eq_true rfl⟩, Nat.le_of_ble_eq_true rfl⟩ rfl rfl dJ5_containsKey_6 (fun v h1 hS hf => ?_)
  obtain ⟨rfl, rfl⟩ := hS
  refine dv_istore_n (pc := 9) cx dJ5_containsKey_9 rfl rfl ?_
  refine dv_iload_n (pc := 10) cx dJ5_containsKey_10 rfl rfl ?_
  refine dv_ldc (pc := 11) cx q360 dJ5_containsKey_11 ?_
  refine dv_iand (pc := 13) cx dJ5_containsKey_13 rfl ?_
  refine dv_aload_n (pc := 14) cx dJ5_containsKey_14 rfl rfl rfl ?_
  refine dv_alen (v := nI q) cx hK 1 rfl hv.2.1 rfl dJ5_containsKey_15 ?_
  refine dv_irem (v := nI (dv_ix k q)) cx dJ5_containsKey_16 (nI_ne0 hq0 (by omega)) (dv_ix_rem k hq0 (by omega)) ?_
  refine dv_istore (pc := 17) cx dJ5_containsKey_17 rfl ?_
  refine dv_aload_n (pc := 19) cx dJ5_containsKey_19 rfl rfl rfl ?_
  refine dv_iload (pc := 20) cx dJ5_containsKey_20 rfl ?_
  refine dv_aald (i := dv_ix k q) (v := va_rf (dv_hd (L (dv_ix k q)))) cx hK 1 rfl hv.2.1 rfl hix (by omega) rfl dJ5_containsKey_22 ?_
  refine dv_astore (pc := 23) cx dJ5_containsKey_23 rfl (dv_rfR _) (dv_rfC _) ?_
  exact loop (L (dv_ix k q)) [] rfl (fun y hy => absurd hy List.not_mem_nil) hch
/-- contains(z): is z a value -/
theorem mt_t_contains (l : Launch) (g : dv_P) (t b : Nat) (kv : List (Int32 × Int32)) (z : Int32) (hlo : dv_lo g ≤ t) : dv_M l yJ5_contains (wsY_ yJ5_contains cJ5_contains 5 (some .boolean)) 2 56 0 0 g [.ref t, .ref b] [t] (fun h => dv_Ta g h t kv ∧ dv_in g h b z) [] (fun v h h1 => h1 = h ∧ (((∃ k, (k, z) ∈ kv) ∧ v = some (.int 1)) ∨ ((∀ k, (k, z) ∉ kv) ∧ v = some (.int 0)))) := by
  refine dv_ofS (by decide +kernel) (dv_cat rfl) q417 List.mem_cons_self hlo ?_
  intro p e s m args below meth c Q cx hnm hK hM hP Ret
  obtain ⟨⟨ta, q, L, w, hv, hp⟩, hb⟩ := hP
  obtain ⟨hq0, hq1⟩ := hv.q
  have inner : ∀ (i : Nat), i < q → (∀ sl : Slot, dv_c1 (some sl) = true → dv_V (dv_lo g) p l e (dv_rm 2 56 0 0) s m args below meth c (dv_ct s.heap) 0 0 Q (dv_G (some t) 1 m 20 [.val (.ref t), .val (.ref b), .val (.ref ta), .val (.int (nI i)), sl] []) ∨ ∃ y ∈ L i, dv_ev y = z) →
      ∀ (rs pre : List dv_E), L i = pre ++ rs → (∀ y ∈ pre, dv_ev y ≠ z) → dv_ch g (dv_ct s.heap) rs →
      dv_V (dv_lo g) p l e (dv_rm 2 56 0 0) s m args below meth c (dv_ct s.heap) 0 0 Q (dv_G (some t) 1 m 32 [.val (.ref t), .val (.ref b), .val (.ref ta), .val (.int (nI i)), .val (va_rf (dv_hd rs))] []) := by
    intro i hi back rs
    induction rs with
    | nil =>
      intro pre hpre hno _
      refine dv_aload (pc := 32) (v := .null) cx dJ5_contains_32 rfl rfl ?_
      refine dv_ifnullN (tgt := 61) cx dJ5_contains_34 (by decide) ?_
      refine dv_goto (pc := 61) (tgt := 20) cx dJ5_contains_61 (by decide) ?_
      rcases back (.val .null) rfl with hb | ⟨y, hy, e1⟩
      · exact hb
      · rw [hpre, List.append_nil] at hy
        exact absurd e1 (hno y hy)
    | cons x r ih =>
      intro pre hpre hno hc
      obtain ⟨⟨ho, hik, hiv, hxlo⟩, hcr⟩ := hc
      refine dv_aload (pc := 32) (v := .ref x.1) cx dJ5_contains_32 rfl rfl ?_
      refine dv_ifnull cx dJ5_contains_34 ?_
      refine dv_aload (pc := 37) (v := .ref x.1) cx dJ5_contains_37 rfl rfl ?_
      refine gf_383 cx hK ho dJ5_contains_39 ?_
      refine dv_aload_n (pc := 42) cx dJ5_contains_42 rfl rfl rfl ?_
      refine dv_cO (C := RJ9) (x := dv_xEq) (rest := []) (av := [.ref b]) cx hK (mt_equals l g x.2.2.2.1 b x.2.2.2.2 z) hK.2.2.1.2.2.2.2.2.2.2.2.1 q361 q287 q290 q289 q16 q291 (n9 := 1) ⟨by decide, by decide, by decide +kernel⟩ rfl (hiv.rc hK) ⟨⟨[], dv_fr.rf⟩, dv_m0, ⟨hiv, hb⟩, Nat.le_refl _, Nat.le_refl _⟩ ⟨⟨Nat.le_of_ble_eq_true rfl, Nat.le_of_ble_eq_true rfl⟩, Nat.le_of_ble_eq_true rfl⟩ rfl rfl dJ5_contains_43 (fun v h1 hS hf => ?_)
      obtain ⟨rfl, rfl⟩ := hS
      refine dv_if_eq (tgt := 51) cx dJ5_contains_46 (by decide) (fun hc => ?_) (fun hc => ?_)
      · have hne : dv_ev x ≠ z := fun w => by rw [if_pos w] at hc; exact absurd hc (by decide)
        refine dv_aload (pc := 51) (v := .ref x.1) cx dJ5_contains_51 rfl rfl ?_
        refine gf_386 cx hK ho dJ5_contains_53 ?_
        refine dv_astore (pc := 56) cx dJ5_contains_56 rfl (dv_rfR _) (dv_rfC _) ?_
        refine dv_goto (pc := 58) (tgt := 32) cx dJ5_contains_58 (by decide) ?_
        exact ih (pre ++ [x]) (by rw [hpre, List.append_assoc]; rfl) (fun y hy => by
          rcases List.mem_append.mp hy with w | w
          · exact hno y w
          · rw [List.mem_singleton.mp w]; exact hne) hcr
      · have heq : dv_ev x = z := by
          by_cases w : dv_ev x = z
          · exact w
          · rw [if_neg w] at hc; exact absurd rfl hc
        refine dv_iconst (pc := 49) (v := 1) cx dJ5_contains_49 (by decide) ?_
        refine Ret _ _ _ _ _ _ _ (Nat.le_refl _) (Nat.le_refl _) ⟨rfl, Or.inl ⟨⟨dv_ek x, ?_⟩, rfl⟩⟩ dv_fr.rf (dv_roz (Or.inr rfl) dJ5_contains_50)
        rw [← hp.mem_iff, List.mem_map]
        exact ⟨x, dv_mem_fl.mpr ⟨i, hi, by rw [hpre]; exact List.mem_append_right _ List.mem_cons_self⟩, by show (dv_ek x, dv_ev x) = _; rw [heq]⟩
  have outer : ∀ (i : Nat), i ≤ q → (∀ j, i ≤ j → j < q → ∀ y ∈ L j, dv_ev y ≠ z) → ∀ sl : Slot, dv_c1 (some sl) = true →
      dv_V (dv_lo g) p l e (dv_rm 2 56 0 0) s m args below meth c (dv_ct s.heap) 0 0 Q (dv_G (some t) 1 m 20 [.val (.ref t), .val (.ref b), .val (.ref ta), .val (.int (nI i)), sl] []) := by
    intro i
    induction i with
    | zero =>
      intro _ hno sl hsl
      refine dv_iload_n (pc := 20) cx dJ5_contains_20 rfl rfl ?_
      refine dv_iinc (pc := 21) cx dJ5_contains_21 rfl rfl ?_
      refine dv_if_le (tgt := 64) cx dJ5_contains_24 (by decide) (fun _ => ?_) (fun hc => absurd (by decide) hc)
      refine dv_iconst (pc := 64) (v := 0) cx dJ5_contains_64 (by decide) ?_
      refine Ret _ _ _ _ _ _ _ (Nat.le_refl _) (Nat.le_refl _) ⟨rfl, Or.inr ⟨fun k hk => ?_, rfl⟩⟩ dv_fr.rf (dv_roz (Or.inl rfl) dJ5_contains_65)
      rw [← hp.mem_iff, List.mem_map] at hk
      obtain ⟨x, hx, e1⟩ := hk
      obtain ⟨j, hj, hx⟩ := dv_mem_fl.mp hx
      exact hno j (Nat.zero_le _) hj x hx (congrArg Prod.snd e1)
    | succ i ih =>
      intro hi hno sl hsl
      refine dv_iload_n (pc := 20) cx dJ5_contains_20 rfl rfl ?_
      refine dv_iinc (v := nI i) cx dJ5_contains_21 rfl (by rw [dv_m1, nI_pred]) ?_
      refine dv_if_le (tgt := 64) cx dJ5_contains_24 (by decide) (fun hc => absurd hc (nI_nle (by omega) (by omega))) (fun _ => ?_)
      refine dv_aload_n (pc := 27) cx dJ5_contains_27 rfl rfl rfl ?_
      refine dv_iload_n (pc := 28) cx dJ5_contains_28 rfl rfl ?_
      refine dv_aald (i := i) (v := va_rf (dv_hd (L i))) cx hK 1 rfl hv.2.1 rfl (by omega) (by omega) rfl dJ5_contains_29 ?_
      refine dv_astore (pc := 30) cx dJ5_contains_30 hsl (dv_rfR _) (dv_rfC _) ?_
      refine inner i (by omega) (fun sl' hsl' => ?_) (L i) [] rfl (fun y hy => absurd hy List.not_mem_nil) (hv.2.2.2.2.2.1 i (by omega))
      by_cases hex : ∃ y ∈ L i, dv_ev y = z
      · exact Or.inr hex
      · refine Or.inl (ih (by omega) (fun j h1 h2 y hy => ?_) sl' hsl')
        by_cases e1 : j = i
        · subst e1
          exact fun w => hex ⟨y, hy, w⟩
        · exact hno j (by omega) h2 y hy
  refine dv_aload_n (pc := 0) cx dJ5_contains_0 rfl rfl rfl ?_
  refine dv_ifnonnull (tgt := 12) cx dJ5_contains_1 (by decide) ?_
  refine dv_aload_n (pc := 12) cx dJ5_contains_12 rfl rfl rfl ?_
  refine gf_99 cx hK hv.1 dJ5_contains_13 ?_
  refine dv_astore_n (pc := 16) cx dJ5_contains_16 rfl rfl rfl rfl ?_
  refine dv_aload_n (pc := 17) cx dJ5_contains_17 rfl rfl rfl ?_
  refine dv_alen (v := nI q) cx hK 1 rfl hv.2.1 rfl dJ5_contains_18 ?_
  refine dv_istore_n (pc := 19) cx dJ5_contains_19 rfl rfl ?_
  exact outer q (Nat.le_refl _) (fun j h1 h2 => absurd h2 (by omega)) .unset rfl
end
section
/-! ===== floats; Hashtable: construction ===== -/
set_option maxRecDepth 100000
section DVF
variable {lo : Nat} {p : Program} {l : Launch} {e : Env} {R : Room} {s : State} {m : MethodId} {args : Array Value} {below : List Frame} {meth : Method} {c : Code} {h : dv_H} {k n : Nat} {Q : State → Prop}
variable {pc nL : Nat} {ls : List Slot} {st : List Value} {cc : ByteArray} {own : String}
theorem dv_fconst0 (cx : CallFix p m c cc nL s args lw_all own) (hd : decode cc pc = .ok (.fconst 0, 1))
    (kk : dv_V lo p l e R s m args below meth c h k n Q (dv_G none 0 m (pc + 1) ls (.float FP.fconst0 :: st))) : dv_V lo p l e R s m args below meth c h k n Q (dv_G none 0 m pc ls st) := fun H locs h1 h2 h3 => lv_fconst0 cx.1 cx.2.1 hd (kk H locs h1 h2 h3)
theorem dv_fcmp (cx : CallFix p m c cc nL s args lw_all own) {x y : UInt32} {op : CmpOp} {v : Int32} (hd : decode cc pc = .ok (.fcmp op, 1)) (hv : Op.cmpValue (FP.fcmp x y) op = v)
    (kk : dv_V lo p l e R s m args below meth c h k n Q (dv_G none 0 m (pc + 1) ls (.int v :: st))) : dv_V lo p l e R s m args below meth c h k n Q (dv_G none 0 m pc ls (.float y :: .float x :: st)) := fun H locs h1 h2 h3 => lv_fcmp cx.1 cx.2.1 hd (by rw [hv]; exact kk H locs h1 h2 h3)
theorem dv_i2f (cx : CallFix p m c cc nL s args lw_all own) {x : Int32} (hd : decode cc pc = .ok (.i2f, 1))
    (kk : dv_V lo p l e R s m args below meth c h k n Q (dv_G none 0 m (pc + 1) ls (.float (FP.i2f x) :: st))) : dv_V lo p l e R s m args below meth c h k n Q (dv_G none 0 m pc ls (.int x :: st)) := fun H locs h1 h2 h3 => lv_i2f cx.1 cx.2.1 hd (kk H locs h1 h2 h3)
theorem dv_fmul (cx : CallFix p m c cc nL s args lw_all own) {x y : UInt32} (hd : decode cc pc = .ok (.fmul, 1)) (hne : vf_n32 (FP.fmul x y))
    (kk : dv_V lo p l e R s m args below meth c h k n Q (dv_G none 0 m (pc + 1) ls (.float (FP.fmul x y) :: st))) : dv_V lo p l e R s m args below meth c h k n Q (dv_G none 0 m pc ls (.float y :: .float x :: st)) := fun H locs h1 h2 h3 => lv_fmul cx.1 cx.2.1 hd hne (kk H locs h1 h2 h3)
theorem dv_f2i (cx : CallFix p m c cc nL s args lw_all own) {x : UInt32} {v : Int32} (hd : decode cc pc = .ok (.f2i, 1)) (hv : FP.f2i x = v)
    (kk : dv_V lo p l e R s m args below meth c h k n Q (dv_G none 0 m (pc + 1) ls (.int v :: st))) : dv_V lo p l e R s m args below meth c h k n Q (dv_G none 0 m pc ls (.float x :: st)) := fun H locs h1 h2 h3 => lv_f2i cx.1 cx.2.1 hd (by rw [hv]; exact kk H locs h1 h2 h3)
theorem dv_ldcf (cx : CallFix p m c cc nL s args lw_all own) {index : Nat} {v : UInt32} (hw : Cond.constantFloat own index v ∈ lw_all) (hd : decode cc pc = .ok (.ldc index, 2))
    (kk : dv_V lo p l e R s m args below meth c h k n Q (dv_G none 0 m (pc + 2) ls (.float v :: st))) : dv_V lo p l e R s m args below meth c h k n Q (dv_G none 0 m pc ls st) := fun H locs h1 h2 h3 => lv_ldcf cx.1 cx.2.1 cx.2.2.2.1 (cx.2.2.2.2 _ hw) hd (kk H locs h1 h2 h3)
end DVF
/-- the model runs an entry of its own in the place of Math.min(FF) -/
def dv_mrow : NativeRow := (NativeRow.find? Native.java_lang_Math.nans.rows "java/lang/Math" "min" "(FF)F").get (by decide +kernel)
theorem dv_mrow_at (p : Program) : NativeRow.find? p.tables.natives "java/lang/Math" "min" "(FF)F" = some dv_mrow := by cases p <;> rfl
/-- what it answers: the lesser -/
theorem dv_mrun {a b : UInt32} (ha : FP.fIsNaN a = false) (hb : FP.fIsNaN b = false) (hc : FP.fcmp a b = some .lt) (e : Env) (S : State) : ∃ acts, (dv_mrow.sem #[.float a, .float b]).run e S = .ok (some (.float a)) S acts := by
  have hp : Native.java_lang_Math.nans.pick32 false a b = a := by unfold Native.java_lang_Math.nans.pick32; rw [hc]; rfl
  have hs : dv_mrow.sem #[.float a, .float b] = (do
      let r ← if FP.fIsNaN a then anyNaN32 a else if FP.fIsNaN b then anyNaN32 b else Pure.pure (Native.java_lang_Math.nans.pick32 false a b)
      mark "nat.java_lang_Math.min/float"
      Pure.pure (some (.float r))) := rfl
  have w : wpRun (dv_mrow.sem #[.float a, .float b]) (fun v s₂ _ => v = some (.float a) ∧ s₂ = S) (fun _ _ _ => False) e S := by
    rw [hs]
    simp [jvm, wpRun, ha, hb, hp]
  have w := (wpRun_iff_run _ _ _ _ _).mp w
  cases hr : (dv_mrow.sem #[.float a, .float b]).run e S with
  | ok v s₂ acts => rw [hr] at w; obtain ⟨rfl, rfl⟩ := w; exact ⟨_, rfl⟩
  | ctl x s₂ acts => rw [hr] at w; cases x <;> exact w.elim
section DVM
variable {g : dv_P} {p : Program} {l : Launch} {e : Env} {R : Room} {s : State} {m : MethodId} {args : Array Value} {below : List Frame} {meth : Method} {c : Code} {h : dv_H} {k n : Nat} {Q : State → Prop}
theorem dv_bkM {len : Nat} {a b : UInt32} (ha : FP.fIsNaN a = false) (hb : FP.fIsNaN b = false) (hc : FP.fcmp a b = some .lt) (hcode : (Cond.code yJ8_min cJ8_min 2 (some .float)).before args s = true) (hfr : 1 ≤ R.frames) (hlc : 21 ≤ R.locals) :
    Back l R p e below s args yJ8_min len 8 (fun A v => A.cells ≤ R.cells ∧ A.slots ≤ R.slots ∧ v = #[.float a, .float b]) (fun A _ v B => v = some (.float a) ∧ B = A) := by
  intro m meth c A f ig mk v X hg hsize hdg hW hnamed ⟨q1, q2, q3⟩
  subst q3
  have hU : (Cond.code yJ8_min cJ8_min 2 (some .float)).before args A.U = true := Cond.tabsOnly_warm (args' := args) (T := A.U) X.warmed _ rfl hcode
  obtain ⟨mt, cm, hmt, hcm, -, hml, -, hlk, -, hsig⟩ := Cond.code_spec hnamed hU
  obtain ⟨kP, hkP, hkn⟩ := className_of_methodNamed hnamed
  obtain ⟨hmn, hmd⟩ := name_of_methodNamed hnamed hmt
  have hxP : kP.methods[mk.idx]? = some mt := by simpa [Vm.method?, hkP] using hmt
  have hboot : kP.loader = none := Vm.bootOf_findClass (findClass_of_methodNamed hnamed) hkP
  refine ⟨_, A, X, ⟨rfl, rfl⟩, ?_⟩
  obtain ⟨f0, hf0⟩ := Option.isSome_iff_exists.mp X.here.top
  obtain ⟨r, hr⟩ := State.topJava?_eq_some.mp hf0
  obtain ⟨mid, hmid⟩ := X.here.above
  have htl : A.U.frames.tail = r := by rw [hr]; rfl
  have hcur := State.cur_lt_of_frames hr
  have htop : A.U.setTop f = A.U.setFrames (.java f :: r) := State.setTop_of_frames _ hr
  have hcg : A.U.code? f.method = some c := by rw [hg]; exact X.here.code
  have hfull : e.platform.stackFull (A.U.setTop f).me (A.U.setTop f).frames cm.maxLocals = false := X.notFull hsize hfr (by rw [hml]; omega)
  have hin : (doInvoke e (A.U.setTop f) [] mk #[.float a, .float b]).1 = A.U.setFrames (.java (entryFrame mk #[.float a, .float b] 2) :: .java f :: r) := by
    rw [(doInvoke_java (s := A.U.setTop f) (e := e) (acts := []) (args := #[.float a, .float b]) (meth := mt) (code := cm) hmt hcm hlk hfull).1, hml, State.pushFrame, State.frames_setTop _ hr, htop, State.setFrames_setFrames]
    rfl
  rw [hin]
  have hf1 : (A.U.setFrames (.java (entryFrame mk #[.float a, .float b] 2) :: .java f :: r)).frames = .java (entryFrame mk #[.float a, .float b] 2) :: .java f :: r := State.frames_setFrames _ hcur
  have hov : overridden p.tables e (A.U.setFrames (.java (entryFrame mk #[.float a, .float b] 2) :: .java f :: r)) (entryFrame mk #[.float a, .float b] 2) = some dv_mrow := by
    have z1 : A.U.vm.classes[(entryFrame mk #[.float a, .float b] 2).method.cls]? = some kP := hkP
    have z6 : kP.name ∈ overriddenIn := by rw [hkn]; decide +kernel
    have z2 : kP.methods[(entryFrame mk #[.float a, .float b] 2).method.idx]? = some mt := hxP
    have z3 : NativeRow.find? p.tables.natives kP.name mt.name mt.desc = some dv_mrow := by rw [hkn, hmn, hmd]; exact dv_mrow_at p
    have z4 : overriddenIn.contains kP.name = true := by rw [hkn]; decide +kernel
    have z5 : ((entryFrame mk #[.float a, .float b] 2).pc != 0) = false := rfl
    unfold overridden
    simp [z5, z1, z2, z3, z6, hboot]
  have hps : mt.sig.parameters.length = 2 := by
    have z : (parseMethodDescriptor yJ8_min.desc).map (fun d => d.parameters.length) = some 2 := by decide +kernel
    rw [hsig] at z
    exact Option.some.inj z
  have hbd : (A.U.vm.classes[mk.cls]?.bind fun y => y.methods[mk.idx]?) = some mt := by simp [hkP, hxP]
  have htake : ∀ n : Nat, List.take (2 + n) [Value.float a, Value.float b] = [Value.float a, Value.float b] := fun n => List.take_of_length_le (Nat.le_add_right 2 n)
  obtain ⟨acts, hrun⟩ := dv_mrun ha hb hc e (A.U.setFrames (.native { method := mk, args := #[.float a, .float b] } :: .java f :: r))
  have hhand : handOver (A.U.setFrames (.native { method := mk, args := #[.float a, .float b] } :: .java f :: r)) (some (.float a)) (.java f :: r) = some (.java { f with pc := f.pc + len, stack := .float a :: f.stack } :: r) := by
    have z : ∀ F : List Frame, (A.U.setFrames F).code? f.method = some c := fun F => by
      rw [State.code?_eq] at hcg ⊢
      simpa [State.setFrames] using hcg
    simp [handOver, z, hdg, Except.toOption]
  have hone : (stepThread p.tables e (A.U.setFrames (.java (entryFrame mk #[.float a, .float b] 2) :: .java f :: r))).1 = A.U.setTop { f with pc := f.pc + len, stack := .float a :: f.stack } := by
    unfold stepThread
    simp only [hf1, hov]
    simp [entryFrame, argsToLocals, Value.category, argCount, hbd, hps, htake, hrun, afterNative]
    rw [doReturn_native (f := { method := mk, args := #[.float a, .float b] }) (below := .java f :: r) (State.frames_setFrames _ hcur) rfl hhand, State.setFrames_setFrames, ← State.setTop_of_frames _ hr]
  refine Steps.head ⟨X.here.running, by simpa using X.here.runnable, by simpa using X.here.alone⟩ ⟨.java (entryFrame mk #[.float a, .float b] 2) :: .java f :: mid, by rw [hf1]; rw [hr] at hmid; simp at hmid; simp [hmid], by simp, by simp⟩ ?_
  rw [hone]
  exact Steps.refl _
/-- Math.min(a, b) where a < b -/
theorem dv_minF {lk : Option Addr} {mr pc nL : Nat} {ls : List Slot} {st : List Value} {cc : ByteArray} {own : String} (cx : CallFix p m c cc nL s args lw_all own) {index : Nat} {a b : UInt32} (ha : FP.fIsNaN a = false) (hb : FP.fIsNaN b = false) (hc : FP.fcmp a b = some .lt)
    (hlink : Cond.methodLink own index yJ8_min ∈ lw_all) (hstat : Cond.static yJ8_min ∈ lw_all) (hini : Cond.initialized yJ8_min.cls ∈ lw_all) (hcode : Cond.code yJ8_min cJ8_min 2 (some .float) ∈ lw_all)
    (hk : k ≤ R.cells) (hn : n ≤ R.slots) (hfr : 1 ≤ R.frames) (hlc : 21 ≤ R.locals) (hst : 2 * mr + (st.map fun v => v.category).sum ≤ 8) (hsz : ls.length = nL) (hd : decode cc pc = .ok (.invokestatic index, 3)) {lo : Nat}
    (kk : dv_V lo p l e R s m args below meth c h k n Q (dv_G lk mr m (pc + 3) ls (.float a :: st))) : dv_V lo p l e R s m args below meth c h k n Q (dv_G lk mr m pc ls (.float b :: .float a :: st)) := by
  obtain ⟨hx, hbb, hml, hown, hts⟩ := cx
  intro H locs h1 h2 h3 T hT X
  obtain ⟨v, vm₁, B, hW, X', ⟨e1, e2⟩, stp⟩ := callS X hx (bytes := cJ8_min) (maxL := 2) (ret := some .float) hown (hts _ hlink) (hts _ hstat) (hts _ hini) (hts _ hcode) ⟨by decide, by decide⟩ (dv_bkM (l := l) (R := R) (p := p) (e := e) (below := below) (len := 3) ha hb hc (hts _ hcode) hfr hlc) (g := dv_G lk mr m pc ls (.float b :: .float a :: st)) rfl (by rw [hml]; exact dv_sz hsz) (argsL := [.float a, .float b]) (rest := st) (dv_len (n0 := 2) (by decide +kernel)) rfl hst (by rw [hbb]; exact hd) (fun vm hvm => ⟨hk, hn, rfl⟩)
  subst e1
  subst e2
  obtain ⟨t, a1, b1⟩ := kk H locs h1 h2 h3 (T.setVm vm₁) hT X'
  exact ⟨t, stp t a1, b1⟩
end DVM
/-- Float.isNaN(x) of a number -/
theorem mt_isNaN (l : Launch) (g : dv_P) (a : UInt32) (h1 : Op.cmpValue (FP.fcmp a a) .l = 0) : dv_M l yJ7_isNaN (ws_ yJ7_isNaN cJ7_isNaN 1 (some .boolean)) 0 0 0 0 g [.float a] [] (fun _ => True) [] (fun v h h1 => v = some (.int 0) ∧ h1 = h) := by
  refine dv_of (by decide +kernel) (dv_cat rfl) ?_
  intro p e s m args below meth c Q cx hnm hK hM hP Ret
  refine dv_fload_n (pc := 0) cx dJ7_isNaN_0 rfl rfl ?_
  refine dv_fload_n (pc := 1) cx dJ7_isNaN_1 rfl rfl ?_
  refine dv_fcmp cx dJ7_isNaN_2 h1 ?_
  refine dv_if_eq (tgt := 10) cx dJ7_isNaN_3 (by decide) (fun _ => ?_) (fun z => absurd rfl z)
  refine dv_iconst (pc := 10) (v := 0) cx dJ7_isNaN_10 (by decide) ?_
  exact Ret _ _ _ _ _ _ _ (Nat.le_refl _) (Nat.le_refl _) ⟨rfl, rfl⟩ dv_fr.rf (dv_roz (Or.inl rfl) dJ7_isNaN_11)
/-- the threshold: capacity times 0.75 -/
abbrev dv_fx (j : Nat) : UInt32 := FP.fmul (FP.i2f (nI (12 * 2 ^ j - 1))) 1061158912
theorem dv_fj : ∀ j, j < 9 → (dv_fx j &&& 0x7fffffff ≤ 0x7f800000) ∧ FP.fIsNaN (dv_fx j) = false ∧ FP.fcmp (dv_fx j) 1325400064 = some .lt ∧ FP.f2i (dv_fx j) = nI (3 * (12 * 2 ^ j - 1) / 4) := by decide +kernel
/-- Dictionary(): nothing -/
theorem mt_di_init (l : Launch) (g : dv_P) (a : Nat) : dv_M l yJ4_init (ws_ yJ4_init cJ4_init 1 none) 1 28 0 0 g [.ref a] [] (fun _ => True) [] (fun v h h1 => v = none ∧ h1 = h) := by
  refine dv_of (by decide +kernel) (dv_cat rfl) ?_
  intro p e s m args below meth c Q cx hnm hK hM hP Ret
  refine dv_aload_n (pc := 0) cx dJ4_init_0 rfl rfl rfl ?_
  refine dv_objInit cx q83 q31 q32 rfl (by decide) (Nat.le_of_ble_eq_true rfl) dJ4_init_1 ?_
  exact Ret _ _ _ _ _ _ _ (Nat.le_refl _) (Nat.le_refl _) ⟨rfl, rfl⟩ dv_fr.rf (dv_rov dJ4_init_4)
abbrev dv_t0 : List Value := [.null, .int 0, .int 0, .float 0, .int 0, .null, .null, .null]
/-- Hashtable(11, 0.75f) -/
theorem mt_t_init2 (l : Launch) (g : dv_P) (t : Nat) (hlo : dv_lo g ≤ t) : dv_M l yJ5_init_2 (ws_ yJ5_init_2 cJ5_init_2 3 none) 2 56 1 11 g [.ref t, .int 11, .float 1061158912] [] (fun h => dv_ob g h t 2 8 dv_t0) (dv_kk g [2]) (fun v _ h1 => v = none ∧ dv_Ta g h1 t []) := by
  refine dv_of (by decide +kernel) (dv_cat rfl) ?_
  intro p e s m args below meth c Q cx hnm hK hM hP Ret
  have ap := hK.ap
  obtain ⟨f1, f2, f3, f5⟩ := dv_fj 0 (by decide)
  refine dv_aload_n (pc := 0) cx dJ5_init_2_0 rfl rfl rfl ?_
  refine dv_cI (rest := []) (av := []) cx hK (mt_di_init l g t) q80 q81 q11 q82 rfl (n9 := 0) ⟨by decide, by decide, by decide +kernel⟩ rfl ⟨⟨[], dv_fr.rf⟩, dv_m0, trivial, Nat.zero_le _, Nat.zero_le _⟩ ⟨⟨Nat.le_of_ble_eq_true rfl, Nat.le_of_ble_eq_true rfl⟩, Nat.le_of_ble_eq_true rfl⟩ rfl rfl dJ5_init_2_1 (fun v h1 hS hf => ?_)
  obtain ⟨rfl, rfl⟩ := hS
  refine dv_aload_n (pc := 4) cx dJ5_init_2_4 rfl rfl rfl ?_
  refine dv_iconst (pc := 5) (v := 0) cx dJ5_init_2_5 (by decide) ?_
  refine pf_103 cx hK hP hlo rfl rfl dJ5_init_2_6 (fun h1 ho1 hs1 => ?_)
  have fr1 := hP.st hs1 (dv_kin (i := 2) (js := [2]) (by decide)) hlo
  refine dv_iload_n (pc := 9) cx dJ5_init_2_9 rfl rfl ?_
  refine dv_if_ge (tgt := 40) cx dJ5_init_2_10 (by decide) (fun _ => ?_) (fun z => absurd (by decide) z)
  refine dv_fload_n (pc := 40) cx dJ5_init_2_40 rfl rfl ?_
  refine dv_fconst0 cx dJ5_init_2_41 ?_
  refine dv_fcmp (v := 1) cx dJ5_init_2_42 (by decide +kernel) ?_
  refine dv_if_le (tgt := 53) cx dJ5_init_2_43 (by decide) (fun z => absurd z (by decide)) (fun _ => ?_)
  refine dv_fload_n (pc := 46) cx dJ5_init_2_46 rfl rfl ?_
  refine dv_cS (rest := []) (avs := [.float 1061158912]) cx hK (mt_isNaN l g 1061158912 (by decide +kernel)) q84 q85 q14 q86 (n9 := 1) ⟨by decide, by decide, by decide +kernel⟩ rfl ⟨⟨_, fr1⟩, dv_m0, trivial, Nat.zero_le _, Nat.zero_le _⟩ ⟨⟨Nat.le_of_ble_eq_true rfl, Nat.le_of_ble_eq_true rfl⟩, Nat.le_of_ble_eq_true rfl⟩ rfl rfl dJ5_init_2_47 (fun v h2 hS hf => ?_)
  obtain ⟨rfl, rfl⟩ := hS
  refine dv_if_eq (tgt := 80) cx dJ5_init_2_50 (by decide) (fun _ => ?_) (fun z => absurd rfl z)
  refine dv_iload_n (pc := 80) cx dJ5_init_2_80 rfl rfl ?_
  refine dv_if_ne (tgt := 86) cx dJ5_init_2_81 (by decide) (fun _ => ?_) (fun z => absurd z (by decide))
  refine dv_aload_n (pc := 86) cx dJ5_init_2_86 rfl rfl rfl ?_
  refine dv_fload_n (pc := 87) cx dJ5_init_2_87 rfl rfl ?_
  refine pf_102 cx hK ho1 hlo rfl rfl dJ5_init_2_88 (fun h3 ho3 hs3 => ?_)
  have fr3 := fr1.trans (ho1.st hs3 (dv_kin (i := 2) (js := [2]) (by decide)) hlo)
  refine dv_aload_n (pc := 91) cx dJ5_init_2_91 rfl rfl rfl ?_
  refine dv_iload_n (pc := 92) cx dJ5_init_2_92 rfl rfl ?_
  refine dv_anew (n0 := 11) cx hK 1 rfl q87 hK.2.2.1.2.2.1 rfl (by decide) (Nat.le_refl _) (Nat.le_refl _) dJ5_init_2_93 (fun ta h4 hw4 hlo4 _ ha4 => ?_)
  have ho4 : dv_ob g h4 t 2 8 _ := ho3.fr (hw4.fr (lo := dv_lo g) (ks := [])) List.not_mem_nil
  have fr4 := fr3.trans hw4.fr
  have hne : ta ≠ t := by
    obtain ⟨x, h1, h2, -⟩ := ho4
    exact dv_far ha4 h1 (by rw [h2]; exact ap.ne 11 2 (by decide))
  refine pf_99 cx hK ho4 hlo rfl rfl dJ5_init_2_96 (fun h5 ho5 hs5 => ?_)
  have fr5 := fr4.trans (ho4.st hs5 (dv_kin (i := 2) (js := [2]) (by decide)) hlo)
  refine dv_aload_n (pc := 99) cx dJ5_init_2_99 rfl rfl rfl ?_
  refine dv_iload_n (pc := 100) cx dJ5_init_2_100 rfl rfl ?_
  refine dv_i2f cx dJ5_init_2_101 ?_
  refine dv_fload_n (pc := 102) cx dJ5_init_2_102 rfl rfl ?_
  refine dv_fmul cx dJ5_init_2_103 f1 ?_
  refine dv_ldcf cx q89 dJ5_init_2_104 ?_
  refine dv_minF cx f2 (by decide +kernel) f3 q90 q91 q15 q92 (Nat.le_refl _) (Nat.le_refl _) (by decide) (by decide) (Nat.le_of_ble_eq_true rfl) rfl dJ5_init_2_106 ?_
  refine dv_f2i cx dJ5_init_2_109 f5 ?_
  refine pf_101 cx hK ho5 hlo rfl rfl dJ5_init_2_110 (fun h7 ho7 hs7 => ?_)
  have fr7 := fr5.trans (ho5.st hs7 (dv_kin (i := 2) (js := [2]) (by decide)) hlo)
  have ha7 : h7 ta = some (arrV (dv_k g 11) 11 (fun _ => .null)) := by rw [hs7.ne hne, hs5.ne hne]; exact ha4
  refine Ret _ _ _ _ _ _ _ (Nat.le_refl _) (Nat.le_refl _) ⟨rfl, ta, 11, fun _ => [], 0, ⟨ho7, ha7, hlo, hlo4, ⟨0, by decide, rfl⟩, fun _ _ => trivial, fun _ _ x hx => absurd hx List.not_mem_nil, by decide, by decide⟩, List.Perm.refl _⟩ fr7 (dv_rov dJ5_init_2_113)
/-- Hashtable() -/
theorem mt_t_init (l : Launch) (g : dv_P) (t : Nat) (hlo : dv_lo g ≤ t) : dv_M l yJ5_init (ws_ yJ5_init cJ5_init 1 none) 3 84 1 11 g [.ref t] [] (fun h => dv_ob g h t 2 8 dv_t0) (dv_kk g [2]) (fun v _ h1 => v = none ∧ dv_Ta g h1 t []) := by
  refine dv_of (by decide +kernel) (dv_cat rfl) ?_
  intro p e s m args below meth c Q cx hnm hK hM hP Ret
  refine dv_aload_n (pc := 0) cx dJ5_init_0 rfl rfl rfl ?_
  refine dv_bipush (pc := 1) (v := 11) cx dJ5_init_1 (by decide) ?_
  refine dv_ldcf cx q76 dJ5_init_3 ?_
  refine dv_cI (rest := []) (av := [.int 11, .float 1061158912]) cx hK (mt_t_init2 l g t hlo) q77 q78 q12 q79 rfl (n9 := 2) ⟨by decide, by decide, by decide +kernel⟩ rfl ⟨⟨[], dv_fr.rf⟩, dv_m0, hP, Nat.le_refl _, Nat.le_refl _⟩ ⟨⟨Nat.le_of_ble_eq_true rfl, Nat.le_of_ble_eq_true rfl⟩, Nat.le_of_ble_eq_true rfl⟩ rfl rfl dJ5_init_5 (fun v h1 hS hf => ?_)
  obtain ⟨rfl, hS⟩ := hS
  exact Ret _ _ _ _ _ _ _ (Nat.le_refl _) (Nat.le_refl _) ⟨rfl, hS⟩ hf (dv_rov dJ5_init_8)
end
section
/-! ===== chains that are written; rehash ===== -/
set_option maxRecDepth 100000
theorem dv_ch.tl {g : dv_P} {h : dv_H} {l : List dv_E} : ∀ {pre : List dv_E}, dv_ch g h (pre ++ l) → dv_ch g h l
  | [], hc => hc
  | _ :: _, hc => dv_ch.tl hc.2
theorem dv_hd_app {l l' : List dv_E} (e : dv_hd l' = dv_hd l) : ∀ pre : List dv_E, dv_hd (pre ++ l') = dv_hd (pre ++ l)
  | [] => e
  | _ :: _ => rfl
/-- the end of a chain is replaced, its first address stays -/
theorem dv_ch.rep {g : dv_P} {h h1 : dv_H} {ks : List ClassId} (hf : dv_fr (dv_lo g) ks h h1) (hk : dv_k g 5 ∉ ks) {l l' : List dv_E} (e : dv_hd l' = dv_hd l) (hl : dv_ch g h1 l') : ∀ {pre : List dv_E}, dv_ch g h (pre ++ l) → (∀ x ∈ pre, h1 x.1 = h x.1) → dv_ch g h1 (pre ++ l')
  | [], _, _ => hl
  | y :: pre, hc, hx => by
    refine ⟨?_, dv_ch.rep hf hk e hl hc.2 (fun z hz => hx z (List.mem_cons_of_mem _ hz))⟩
    have := hc.1.kp (hx _ List.mem_cons_self) hf hk
    show dv_en3 g h1 y (dv_hd (pre ++ l'))
    rw [dv_hd_app e pre]
    exact this
theorem dv_mem_re {L : Nat → List dv_E} {i j q : Nat} {x : dv_E} (hj : j < q) (hij : j ≠ i) (hx : x ∈ L j) : x ∈ dv_re L i q := dv_mem_fl.mpr ⟨j, hj, by rw [dv_upn hij]; exact hx⟩
theorem dv_re_mem {L : Nat → List dv_E} {i q : Nat} {x : dv_E} (hx : x ∈ dv_re L i q) : ∃ j, j < q ∧ j ≠ i ∧ x ∈ L j := by
  obtain ⟨j, hj, hx⟩ := dv_mem_fl.mp hx
  by_cases e : j = i
  · subst e; rw [dv_ups] at hx; exact absurd hx List.not_mem_nil
  · rw [dv_upn e] at hx; exact ⟨j, hj, e, hx⟩
theorem dv_fl_cons (L : Nat → List dv_E) {i q : Nat} (x : dv_E) (h : i < q) : (dv_fl (va_up L i (x :: L i)) q).Perm (x :: dv_fl L q) :=
  (dv_fl_perm L i (x :: L i) h).trans ((dv_fl_at L h).symm.cons x)
/-- one bucket is replaced -/
theorem dv_bk.upd {g : dv_P} {h h1 : dv_H} {L : Nat → List dv_E} {q i : Nat} {l' : List dv_E} (hb : dv_bk g h L q) (hi : i < q) (hk : ∀ j, j < q → j ≠ i → dv_ch g h1 (L j)) (hc : dv_ch g h1 l') (hix : ∀ x ∈ l', dv_ix (dv_ek x) q = i)
    (n1 : ((l' ++ dv_re L i q).map (·.1)).Nodup) (n2 : ((l' ++ dv_re L i q).map dv_ek).Nodup) : dv_bk g h1 (va_up L i l') q := by
  have hp := (dv_fl_perm L i l' hi).symm
  refine ⟨fun j hj => ?_, fun j hj x hx => ?_, dv_nodup_map_perm hp n1, dv_nodup_map_perm hp n2⟩
  · by_cases e : j = i
    · subst e; rw [dv_ups]; exact hc
    · rw [dv_upn e]; exact hk j hj e
  · by_cases e : j = i
    · subst e; rw [dv_ups] at hx; exact hix x hx
    · rw [dv_upn e] at hx; exact hb.2.1 j hj x hx
theorem dv_rfn (o : Option Nat) : narrow (tyJ12 3) (va_rf o) = va_rf o ∧ fits (tyJ12 3) (va_rf o) = true := by cases o <;> exact ⟨rfl, rfl⟩
theorem dv_upL (L : Nat → List dv_E) (i : Nat) (l : List dv_E) : (fun j => va_rf (dv_hd (va_up L i l j))) = updV (fun j => va_rf (dv_hd (L j))) i (va_rf (dv_hd l)) := by
  funext j
  by_cases e : j = i
  · subst e; rw [dv_ups]; exact (if_pos rfl).symm
  · rw [dv_upn e]; exact (if_neg e).symm
section DVE
variable {g : dv_P} {p : Program} {l : Launch} {e : Env} {R : Room} {s : State} {m : MethodId} {args : Array Value} {below : List Frame} {meth : Method} {c : Code} {h : dv_H} {k n : Nat} {Q : State → Prop}
variable {lk : Option Addr} {mr : Nat} {pc nL : Nat} {ls : List Slot} {st : List Value} {cc : ByteArray} {own : String}
/-- the head of a chain into the Entry[] -/
theorem dv_aastE (cx : CallFix p m c cc nL s args lw_all own) (hK : dv_K g s) {a n0 i : Nat} {L : Nat → List dv_E} {lx : List dv_E} {x : Int32} (ha : h a = some (arrV (dv_k g 11) n0 (fun j => va_rf (dv_hd (L j))))) (hlo : dv_lo g ≤ a) (hx' : x = nI i) (hi : i < n0) (hn : n0 < 2 ^ 31) (hw : ∀ w, dv_hd lx = some w → ∃ fs, dv_ob g h w 3 4 fs) (hd : decode cc pc = .ok (.aastore, 1))
    (kk : dv_V (dv_lo g) p l e R s m args below meth c (dv_up h a (arrV (dv_k g 11) n0 (fun j => va_rf (dv_hd (va_up L i lx j))))) k n Q (dv_G lk mr m (pc + 1) ls st)) : dv_V (dv_lo g) p l e R s m args below meth c h k n Q (dv_G lk mr m pc ls (va_rf (dv_hd lx) :: .int x :: .ref a :: st)) := by
  rw [dv_upL] at kk
  cases hl : dv_hd lx with
  | none =>
    rw [hl] at kk
    exact dv_aastN (E := "java/util/Hashtable$Entry") cx hK 1 rfl ha hlo hx' hi hn hd kk
  | some w =>
    rw [hl] at kk
    obtain ⟨fs, y, w1, w2, w3, -⟩ := hw w hl
    exact dv_aast (C := RJ12) (E := "java/util/Hashtable$Entry") cx hK 1 rfl ha hlo hx' hi hn w1 (by rw [w3]; rfl) (by rw [w2]; exact (hK.2.2.1.1.1 3 _ rfl).2.1) (fun _ _ z1 z2 => by cases z1.symm.trans z2; exact va_asg _ _) hd kk
end DVE
/-- rehash under way: L the old buckets below i, rs the rest of the one being moved, L' the new ones -/
def dv_rI (g : dv_P) (h0 : dv_H) (t ta na q q' : Nat) (L : Nat → List dv_E) (E : List dv_E) (w : Int32) (i : Nat) (rs : List dv_E) (L' : Nat → List dv_E) (h : dv_H) : Prop :=
  dv_ob g h t 2 8 [.ref na, .int (nI E.length), .int (nI (3 * q' / 4)), .float 1061158912, .int w, .null, .null, .null] ∧ h na = some (arrV (dv_k g 11) q' (fun b => va_rf (dv_hd (L' b)))) ∧ h ta = some (arrV (dv_k g 11) q (fun b => va_rf (dv_hd (L b)))) ∧
  (∀ b, b < q' → dv_ch g h (L' b)) ∧ (∀ b, b < q' → ∀ x ∈ L' b, dv_ix (dv_ek x) q' = b) ∧ dv_ch g h rs ∧ (∀ b, b < i → dv_ch g h (L b)) ∧ (dv_fl L' q' ++ (rs ++ dv_fl L i)).Perm E ∧ dv_fr (dv_lo g) (dv_kk g [2, 3, 11]) h0 h
/-- an entry is moved -/
theorem dv_rI.move {g : dv_P} {h0 h h1 : dv_H} {t ta na q q' : Nat} {L : Nat → List dv_E} {E : List dv_E} {w : Int32} {i : Nat} {x : dv_E} {r : List dv_E} {L' : Nat → List dv_E} (ap : dv_ap g) (hnd : (E.map (·.1)).Nodup) (hq : 0 < q') (hta : ta ≠ na) (hna : dv_lo g ≤ na)
    (I : dv_rI g h0 t ta na q q' L E w i (x :: r) L' h) (hs : dv_st x.1 h h1) (ho : dv_ob g h1 x.1 3 4 [.int x.2.2.1, .ref x.2.1, .ref x.2.2.2.1, va_rf (dv_hd (L' (dv_ix (dv_ek x) q')))]) :
    dv_rI g h0 t ta na q q' L E w i r (va_up L' (dv_ix (dv_ek x) q') (x :: L' (dv_ix (dv_ek x) q'))) (dv_up h1 na (arrV (dv_k g 11) q' (fun j => va_rf (dv_hd (va_up L' (dv_ix (dv_ek x) q') (x :: L' (dv_ix (dv_ek x) q')) j))))) := by
  obtain ⟨i1, i2, i3, i4, i5, ⟨⟨ie, ik, iv, il⟩, i6⟩, i7, i8, i9⟩ := I
  generalize hb : dv_ix (dv_ek x) q' = b at ho ⊢
  have hbl : b < q' := by rw [← hb]; exact dv_ix_lt _ hq
  have hne : ∀ {a : Nat} {c : Cell}, h a = some c → c.cls ≠ dv_k g 3 → a ≠ x.1 := by
    intro a c hc hk
    obtain ⟨y, e1, e2, -⟩ := ie
    exact dv_far hc e1 (by rw [e2]; exact hk)
  have nax : na ≠ x.1 := hne i2 (ap.ne 11 3 (by decide))
  have tax : ta ≠ x.1 := hne i3 (ap.ne 11 3 (by decide))
  have f1 : dv_fr (dv_lo g) (dv_kk g [2, 3, 11]) h h1 := ie.st hs (dv_kin (i := 3) (by decide)) il
  have hna1 : h1 na = some (arrV (dv_k g 11) q' (fun b => va_rf (dv_hd (L' b)))) := by rw [hs.ne nax]; exact i2
  generalize hf : (fun j => va_rf (dv_hd (va_up L' b (x :: L' b) j))) = f
  have f2 : dv_fr (dv_lo g) (dv_kk g [2, 3, 11]) h1 (dv_up h1 na (arrV (dv_k g 11) q' f)) := dv_fr.up hna1 rfl rfl (dv_kin (i := 11) (by decide)) hna
  have f12 := f1.trans f2
  have n5 := dv_nin ap 5 (js := [2, 3, 11]) (by decide)
  -- other entries
  have hp : (x :: (dv_fl L' q' ++ (r ++ dv_fl L i))).Perm E := List.perm_middle.symm.trans i8
  have hnd2 := dv_nodup_map_perm hp.symm hnd
  rw [List.map_cons, List.nodup_cons] at hnd2
  have oth : ∀ y : dv_E, y ∈ dv_fl L' q' ++ (r ++ dv_fl L i) → y.1 ≠ x.1 := fun y hy e => hnd2.1 (List.mem_map.mpr ⟨y, hy, e⟩)
  have kpt : ∀ {l : List dv_E}, dv_ch g h l → (∀ y ∈ l, y.1 ≠ x.1) → dv_ch g (dv_up h1 na (arrV (dv_k g 11) q' f)) l := by
    intro l hc hl
    refine hc.kp f12 n5 (fun y hy => ?_)
    obtain ⟨o, ⟨c1, e1, e2, -⟩, -⟩ := hc.mem hy
    have z : y.1 ≠ na := dv_far e1 i2 (by rw [e2]; exact ap.ne 3 11 (by decide))
    rw [dv_up_ne z, hs.ne (hl y hy)]
  have hL' : ∀ j, j < q' → ∀ y ∈ L' j, y.1 ≠ x.1 := fun j hj y hy => oth y (List.mem_append_left _ (dv_mem_fl.mpr ⟨j, hj, hy⟩))
  have htx : t ≠ x.1 := by
    obtain ⟨c1, e1, e2, -⟩ := i1
    exact hne e1 (by rw [e2]; exact ap.ne 2 3 (by decide))
  have htn : t ≠ na := by
    obtain ⟨c1, e1, e2, -⟩ := i1
    exact dv_far e1 i2 (by rw [e2]; exact ap.ne 2 11 (by decide))
  refine ⟨i1.kept (by rw [dv_up_ne htn, hs.ne htx]), by rw [dv_up_self, hf], by rw [dv_up_ne hta, hs.ne tax]; exact i3, fun j hj => ?_, fun j hj y hy => ?_, kpt i6 (fun y hy => oth y (List.mem_append_right _ (List.mem_append_left _ hy))), fun j hj => kpt (i7 j hj) (fun y hy => oth y (List.mem_append_right _ (List.mem_append_right _ (dv_mem_fl.mpr ⟨j, hj, hy⟩)))), ?_, i9.trans f12⟩
  · by_cases e : j = b
    · subst e
      rw [dv_ups]
      exact ⟨⟨ho.kept (dv_up_ne (Ne.symm nax)), ik.fr f12 n5, iv.fr f12 n5, il⟩, kpt (i4 j hj) (hL' j hj)⟩
    · rw [dv_upn e]
      exact kpt (i4 j hj) (hL' j hj)
  · by_cases e : j = b
    · subst e
      rw [dv_ups] at hy
      rcases List.mem_cons.mp hy with rfl | hy
      · exact hb
      · exact i5 j hj y hy
    · rw [dv_upn e] at hy
      exact i5 j hj y hy
  · exact ((dv_fl_cons L' x hbl).append_right _).trans hp
/-- the next bucket -/
theorem dv_rI.next {g : dv_P} {h0 h : dv_H} {t ta na q q' : Nat} {L : Nat → List dv_E} {E : List dv_E} {w : Int32} {i : Nat} {L' : Nat → List dv_E} (I : dv_rI g h0 t ta na q q' L E w (i + 1) [] L' h) : dv_rI g h0 t ta na q q' L E w i (L i) L' h := by
  obtain ⟨i1, i2, i3, i4, i5, i6, i7, i8, i9⟩ := I
  exact ⟨i1, i2, i3, i4, i5, i7 i (by omega), fun b hb => i7 b (by omega), i8, i9⟩
theorem dv_rcap {n q : Nat} (hn : n ≤ 1700) (hnq : 3 * q / 4 ≤ n) (hj : ∃ j, j ≤ 8 ∧ q = 12 * 2 ^ j - 1) : ∃ j, j < 8 ∧ q = 12 * 2 ^ j - 1 := by
  obtain ⟨j, hj, e⟩ := hj
  have key : ∀ j, j ≤ 8 → 3 * (12 * 2 ^ j - 1) / 4 ≤ 1700 → j < 8 := by decide
  exact ⟨j, key j hj (by rw [← e]; omega), e⟩
/-- rehash() -/
theorem mt_t_rehash (l : Launch) (g : dv_P) (t ta q : Nat) (L : Nat → List dv_E) (w : Int32) (hn : (dv_fl L q).length ≤ 1700) (hge : 3 * q / 4 ≤ (dv_fl L q).length) : dv_M l yJ5_rehash (ws_ yJ5_rehash cJ5_rehash 9 none) 1 28 1 3071 g [.ref t] [] (fun h => dv_tr g h t ta q L w) (dv_kk g [2, 3, 11]) (fun v _ h1 => v = none ∧ ∃ na L' w', dv_tr g h1 t na (2 * q + 1) L' w' ∧ (dv_fl L' (2 * q + 1)).Perm (dv_fl L q)) := by
  refine dv_of (by decide +kernel) (dv_cat rfl) ?_
  intro p e s m args below meth c Q cx hnm hK hM hP Ret
  have ap := hK.ap
  obtain ⟨hq0, hq1⟩ := hP.q
  obtain ⟨v1, v2, v3, v4, v5, b1, b2, b3, b4⟩ := hP
  obtain ⟨j, hj, hqj⟩ := dv_rcap hn hge v5
  have hp2 := dv_pow8 (j := j) (by omega)
  have hp3 : 2 ^ j ≤ 2 ^ 7 := Nat.pow_le_pow_right (by decide) (by omega)
  have hp4 := Nat.one_le_two_pow (n := j)
  have hq2 : 2 * q + 1 = 12 * 2 ^ (j + 1) - 1 := by rw [Nat.pow_succ]; omega
  generalize hq' : 2 * q + 1 = q' at hq2 Ret
  have hq'0 : 0 < q' := by omega
  have hq'1 : q' ≤ 3071 := by omega
  obtain ⟨f1, f2, f3, f5⟩ := dv_fj (j + 1) (by omega)
  have ex : dv_fx (j + 1) = FP.fmul (FP.i2f (nI q')) 1061158912 := by rw [hq2]
  rw [ex] at f1 f2 f3 f5
  rw [← hq2] at f5
  generalize hfx : FP.fmul (FP.i2f (nI q')) 1061158912 = fx at f1 f2 f3 f5
  refine dv_aload_n (pc := 0) cx dJ5_rehash_0 rfl rfl rfl ?_
  refine gf_99 cx hK v1 dJ5_rehash_1 ?_
  refine dv_alen (v := nI q) cx hK 1 rfl v2 rfl dJ5_rehash_4 ?_
  refine dv_istore_n (pc := 5) cx dJ5_rehash_5 rfl rfl ?_
  refine dv_aload_n (pc := 6) cx dJ5_rehash_6 rfl rfl rfl ?_
  refine gf_99 cx hK v1 dJ5_rehash_7 ?_
  refine dv_astore_n (pc := 10) cx dJ5_rehash_10 rfl rfl rfl rfl ?_
  refine dv_iload_n (pc := 11) cx dJ5_rehash_11 rfl rfl ?_
  refine dv_iconst (pc := 12) (v := 1) cx dJ5_rehash_12 (by decide) ?_
  refine dv_ishl (v := nI (q * 2 ^ 1)) cx dJ5_rehash_13 (pk_shlN _ 1 (by decide) (by omega)) ?_
  refine dv_iconst (pc := 14) (v := 1) cx dJ5_rehash_14 (by decide) ?_
  refine dv_iadd (v := nI q') cx dJ5_rehash_15 (by rw [nI_1, ← hq']; congr 1; omega) ?_
  refine dv_istore_n (pc := 16) cx dJ5_rehash_16 rfl rfl ?_
  refine dv_iload_n (pc := 17) cx dJ5_rehash_17 rfl rfl ?_
  refine dv_ldc (pc := 18) cx q370 dJ5_rehash_18 ?_
  refine dv_isub (pc := 20) cx dJ5_rehash_20 rfl ?_
  have hneg : nI q' - 2147483639 ≤ 0 := by
    have key : (nI q' - 2147483639).toInt = (q' : Int) - 2147483639 := by
      have e1 := nI_toInt (n := q') (by omega)
      rw [Int32.toInt_sub, e1]
      have e2 : (2147483639 : Int32).toInt = 2147483639 := by decide +kernel
      rw [e2]
      rw [Int.bmod_def]; omega
    rw [Int32.le_iff_toInt_le, key, Int32.toInt_zero]
    omega
  refine dv_if_le (tgt := 34) cx dJ5_rehash_21 (by decide) (fun _ => ?_) (fun z => absurd hneg z)
  refine dv_iload_n (pc := 34) cx dJ5_rehash_34 rfl rfl ?_
  refine dv_anew (n0 := q') cx hK 1 rfl q87 hK.2.2.1.2.2.1 rfl (by omega) (Nat.le_refl _) (by show 0 + q' ≤ 3071; omega) dJ5_rehash_35 (fun na h1 hw1 hlo1 _ ha1 => ?_)
  have nfr : dv_fr (dv_lo g) (dv_kk g [2, 3, 11]) (dv_ct s.heap) h1 := hw1.fr
  have ho1 : dv_ob g h1 t 2 8 _ := v1.fr (hw1.fr (lo := dv_lo g) (ks := [])) List.not_mem_nil
  have hta1 := hw1.kp v2
  have hnta : ta ≠ na := by
    intro z
    obtain ⟨z1, -⟩ := hw1
    rw [← z, v2] at z1
    cases z1
  have htn : t ≠ na := by
    obtain ⟨x, e1, e2, -⟩ := ho1
    exact dv_far e1 ha1 (by rw [e2]; exact ap.ne 2 11 (by decide))
  have htta : ta ≠ t := by
    obtain ⟨x, e1, e2, -⟩ := ho1
    exact dv_far hta1 e1 (by rw [e2]; exact ap.ne 11 2 (by decide))
  refine dv_astore (pc := 38) cx dJ5_rehash_38 rfl rfl rfl ?_
  refine dv_aload_n (pc := 40) cx dJ5_rehash_40 rfl rfl rfl ?_
  refine dv_dup (pc := 41) cx dJ5_rehash_41 rfl ?_
  refine gf_103 cx hK ho1 dJ5_rehash_42 ?_
  refine dv_iconst (pc := 45) (v := 1) cx dJ5_rehash_45 (by decide) ?_
  refine dv_iadd (pc := 46) cx dJ5_rehash_46 rfl ?_
  refine pf_103 cx hK ho1 v3 rfl rfl dJ5_rehash_47 (fun h2 ho2 hs2 => ?_)
  have fr2 := nfr.trans (ho1.st hs2 (dv_kin (i := 2) (js := [2, 3, 11]) (by decide)) v3)
  refine dv_aload_n (pc := 50) cx dJ5_rehash_50 rfl rfl rfl ?_
  refine dv_iload_n (pc := 51) cx dJ5_rehash_51 rfl rfl ?_
  refine dv_i2f cx dJ5_rehash_52 ?_
  refine dv_aload_n (pc := 53) cx dJ5_rehash_53 rfl rfl rfl ?_
  refine gf_102 cx hK ho2 dJ5_rehash_54 ?_
  refine dv_fmul cx dJ5_rehash_57 (by rw [hfx]; exact f1) ?_
  rw [hfx]
  refine dv_ldcf cx q89 dJ5_rehash_58 ?_
  refine dv_minF cx f2 (by decide +kernel) f3 q90 q91 q15 q92 (Nat.le_refl _) (by show 0 + q' ≤ 3071; omega) (by decide) (by decide) (Nat.le_of_ble_eq_true rfl) rfl dJ5_rehash_60 ?_
  refine dv_f2i cx dJ5_rehash_63 f5 ?_
  refine pf_101 cx hK ho2 v3 rfl rfl dJ5_rehash_64 (fun h3 ho3 hs3 => ?_)
  have fr3 := fr2.trans (ho2.st hs3 (dv_kin (i := 2) (js := [2, 3, 11]) (by decide)) v3)
  refine dv_aload_n (pc := 67) cx dJ5_rehash_67 rfl rfl rfl ?_
  refine dv_aload (pc := 68) cx dJ5_rehash_68 rfl rfl ?_
  refine pf_99 cx hK ho3 v3 rfl rfl dJ5_rehash_70 (fun h4 ho4 hs4 => ?_)
  have fr4 := fr3.trans (ho3.st hs4 (dv_kin (i := 2) (js := [2, 3, 11]) (by decide)) v3)
  have loop : ∀ (i : Nat), i ≤ q → ∀ (h : dv_H) (L' : Nat → List dv_E) (s6 s7 s8 : Slot), dv_c1 (some s6) = true → dv_c1 (some s7) = true → dv_c1 (some s8) = true → dv_rI g (dv_ct s.heap) t ta na q q' L (dv_fl L q) (w + 1) i [] L' h →
      dv_V (dv_lo g) p l e (dv_rm 1 28 1 3071) s m args below meth c h 1 q' Q (dv_G none 0 m 76 [.val (.ref t), .val (.int (nI q)), .val (.ref ta), .val (.int (nI q')), .val (.ref na), .val (.int (nI i)), s6, s7, s8] []) := by
    intro i
    induction i with
    | zero =>
      intro _ h L' s6 s7 s8 c6 c7 c8 I
      refine dv_iload (pc := 76) cx dJ5_rehash_76 rfl ?_
      refine dv_iinc (pc := 78) cx dJ5_rehash_78 rfl rfl ?_
      refine dv_if_le (tgt := 141) cx dJ5_rehash_81 (by decide) (fun _ => ?_) (fun z => absurd (by decide) z)
      obtain ⟨i1, i2, i3, i4, i5, -, -, i8, i9⟩ := I
      have hp : (dv_fl L' q').Perm (dv_fl L q) := by
        have z : dv_fl L' q' ++ ([] ++ dv_fl L 0) = dv_fl L' q' := List.append_nil _
        rw [z] at i8
        exact i8
      refine Ret _ _ _ _ _ _ _ (Nat.le_refl _) hq'1 ⟨rfl, na, L', w + 1, ⟨?_, i2, v3, hlo1, ⟨j + 1, by omega, hq2⟩, i4, i5, dv_nodup_map_perm hp.symm b3, dv_nodup_map_perm hp.symm b4⟩, hp⟩ i9 (dv_rov dJ5_rehash_141)
      rw [hp.length_eq]
      exact i1
    | succ i ih =>
      intro hi h L' s6 s7 s8 c6 c7 c8 I
      have inner : ∀ (rs : List dv_E) (h : dv_H) (L' : Nat → List dv_E) (s7 s8 : Slot), dv_c1 (some s7) = true → dv_c1 (some s8) = true → dv_rI g (dv_ct s.heap) t ta na q q' L (dv_fl L q) (w + 1) i rs L' h →
          dv_V (dv_lo g) p l e (dv_rm 1 28 1 3071) s m args below meth c h 1 q' Q (dv_G none 0 m 90 [.val (.ref t), .val (.int (nI q)), .val (.ref ta), .val (.int (nI q')), .val (.ref na), .val (.int (nI i)), .val (va_rf (dv_hd rs)), s7, s8] []) := by
        intro rs
        induction rs with
        | nil =>
          intro h L' s7 s8 c7 c8 I
          refine dv_aload (pc := 90) (v := .null) cx dJ5_rehash_90 rfl rfl ?_
          refine dv_ifnullN (tgt := 138) cx dJ5_rehash_92 (by decide) ?_
          refine dv_goto (pc := 138) (tgt := 76) cx dJ5_rehash_138 (by decide) ?_
          exact ih (by omega) h L' _ s7 s8 rfl c7 c8 I
        | cons x r ihr =>
          intro h L' s7 s8 c7 c8 I
          have I' := I
          obtain ⟨i1, i2, i3, i4, i5, ⟨⟨ie, ik, iv, il⟩, i6⟩, i7, i8, i9⟩ := I
          refine dv_aload (pc := 90) (v := .ref x.1) cx dJ5_rehash_90 rfl rfl ?_
          refine dv_ifnull cx dJ5_rehash_92 ?_
          refine dv_aload (pc := 95) (v := .ref x.1) cx dJ5_rehash_95 rfl rfl ?_
          refine dv_astore (pc := 97) cx dJ5_rehash_97 c7 rfl rfl ?_
          refine dv_aload (pc := 99) (v := .ref x.1) cx dJ5_rehash_99 rfl rfl ?_
          refine gf_386 cx hK ie dJ5_rehash_101 ?_
          refine dv_astore (pc := 104) cx dJ5_rehash_104 rfl (dv_rfR _) (dv_rfC _) ?_
          refine dv_aload (pc := 106) (v := .ref x.1) cx dJ5_rehash_106 rfl rfl ?_
          refine gf_377 cx hK ie dJ5_rehash_108 ?_
          refine dv_ldc (pc := 111) cx q360 dJ5_rehash_111 ?_
          refine dv_iand (pc := 113) cx dJ5_rehash_113 rfl ?_
          refine dv_iload_n (pc := 114) cx dJ5_rehash_114 rfl rfl ?_
          refine dv_irem (v := nI (dv_ix (dv_ek x) q')) cx dJ5_rehash_115 (nI_ne0 hq'0 (by omega)) (dv_ix_rem _ hq'0 (by omega)) ?_
          refine dv_istore (pc := 116) cx dJ5_rehash_116 c8 ?_
          refine dv_aload (pc := 118) (v := .ref x.1) cx dJ5_rehash_118 rfl rfl ?_
          refine dv_aload (pc := 120) cx dJ5_rehash_120 rfl rfl ?_
          refine dv_iload (pc := 122) cx dJ5_rehash_122 rfl ?_
          refine dv_aald (i := dv_ix (dv_ek x) q') (v := va_rf (dv_hd (L' (dv_ix (dv_ek x) q')))) cx hK 1 rfl i2 rfl (dv_ix_lt _ hq'0) (by omega) rfl dJ5_rehash_124 ?_
          refine pf_386 cx hK ie il (dv_rfn _).1 (dv_rfn _).2 dJ5_rehash_125 (fun h5 ho5 hs5 => ?_)
          have nax : na ≠ x.1 := by
            obtain ⟨y, e1, e2, -⟩ := ie
            exact dv_far i2 e1 (by rw [e2]; exact ap.ne 11 3 (by decide))
          refine dv_aload (pc := 128) cx dJ5_rehash_128 rfl rfl ?_
          refine dv_iload (pc := 130) cx dJ5_rehash_130 rfl ?_
          refine dv_aload (pc := 132) (v := .ref x.1) cx dJ5_rehash_132 rfl rfl ?_
          refine dv_aastE (i := dv_ix (dv_ek x) q') (L := L') (lx := x :: L' (dv_ix (dv_ek x) q')) cx hK (by rw [hs5.ne nax]; exact i2) hlo1 rfl (dv_ix_lt _ hq'0) (by omega) (fun z hz => ⟨_, by cases hz; exact ho5⟩) dJ5_rehash_134 ?_
          refine dv_goto (pc := 135) (tgt := 90) cx dJ5_rehash_135 (by decide) ?_
          exact ihr _ _ _ _ rfl rfl (I'.move ap b3 hq'0 hnta hlo1 hs5 ho5)
      refine dv_iload (pc := 76) cx dJ5_rehash_76 rfl ?_
      refine dv_iinc (v := nI i) cx dJ5_rehash_78 rfl (by rw [dv_m1, nI_pred]) ?_
      refine dv_if_le (tgt := 141) cx dJ5_rehash_81 (by decide) (fun hc => absurd hc (nI_nle (by omega) (by omega))) (fun _ => ?_)
      refine dv_aload_n (pc := 84) cx dJ5_rehash_84 rfl rfl rfl ?_
      refine dv_iload (pc := 85) cx dJ5_rehash_85 rfl ?_
      refine dv_aald (i := i) (v := va_rf (dv_hd (L i))) cx hK 1 rfl I.2.2.1 rfl (by omega) (by omega) rfl dJ5_rehash_87 ?_
      refine dv_astore (pc := 88) cx dJ5_rehash_88 c6 (dv_rfR _) (dv_rfC _) ?_
      exact inner (L i) h L' s7 s8 c7 c8 I.next
  refine dv_iload_n (pc := 73) cx dJ5_rehash_73 rfl rfl ?_
  refine dv_istore (pc := 74) cx dJ5_rehash_74 rfl ?_
  refine dv_widen (k' := 1) (n' := q') (Nat.le_refl 1) (Nat.le_of_eq (Nat.zero_add q')) (loop q (Nat.le_refl _) h4 (fun _ => []) .unset .unset .unset rfl rfl rfl ⟨ho4, ?_, ?_, fun _ _ => trivial, fun _ _ x hx => absurd hx List.not_mem_nil, trivial, fun b hb => ?_, ?_, fr4⟩)
  · rw [hs4.ne (Ne.symm htn), hs3.ne (Ne.symm htn), hs2.ne (Ne.symm htn)]; exact ha1
  · rw [hs4.ne htta, hs3.ne htta, hs2.ne htta]; exact hta1
  · refine (b1 b hb).kp fr4 (dv_nin ap 5 (by decide)) (fun y hy => ?_)
    obtain ⟨o, ⟨c1, e1, e2, -⟩, -⟩ := (b1 b hb).mem hy
    have z : y.1 ≠ t := by
      obtain ⟨x, e3, e4, -⟩ := v1
      exact dv_far e1 e3 (by rw [e2, e4]; exact ap.ne 3 2 (by decide))
    rw [hs4.ne z, hs3.ne z, hs2.ne z, hw1.kp e1, e1]
  · have z : ∀ n, dv_fl (fun _ => []) n = [] := fun n => by induction n with
      | zero => rfl
      | succ n ih => exact ih
    rw [z]
    exact List.Perm.refl _
end
section
/-! ===== Hashtable: addEntry, put, remove ===== -/
set_option maxRecDepth 100000
abbrev dv_wo (k : Int32) (kv : List (Int32 × Int32)) : List (Int32 × Int32) := kv.filter (fun y => decide (y.1 ≠ k))
theorem dv_wo0 {k : Int32} {kv : List (Int32 × Int32)} (h : ∀ z, (k, z) ∉ kv) : dv_wo k kv = kv := by
  rw [List.filter_eq_self]
  intro y hy
  rw [decide_eq_true_eq]
  intro e
  exact h y.2 (by rw [← e]; exact hy)
theorem dv_wo1 {k z : Int32} {kv rest : List (Int32 × Int32)} (hp : kv.Perm ((k, z) :: rest)) (hr : ∀ z, (k, z) ∉ rest) : (dv_wo k kv).Perm rest := by
  have h1 := hp.filter (fun y => decide (y.1 ≠ k))
  rw [List.filter_cons_of_neg (by simp)] at h1
  have h2 : rest.filter (fun y => decide (y.1 ≠ k)) = rest := dv_wo0 hr
  rw [h2] at h1
  exact h1
/-- a bucket of the table is replaced -/
theorem dv_tr.bkt {g : dv_P} {h h5 : dv_H} {t ta q b : Nat} {L : Nat → List dv_E} {w w' : Int32} {l' : List dv_E} (v : dv_tr g h t ta q L w) (ap : dv_ap g) (hb : b < q) (hf : dv_fr (dv_lo g) (dv_kk g [2, 3, 11]) h h5) (hoff : ∀ y, (∀ u ∈ L b, y ≠ u.1) → y ≠ ta → y ≠ t → h y ≠ Option.none → h5 y = h y)
    (ho : dv_ob g h5 t 2 8 [.ref ta, .int (nI (l' ++ dv_re L b q).length), .int (nI (3 * q / 4)), .float 1061158912, .int w', .null, .null, .null]) (ha : h5 ta = some (arrV (dv_k g 11) q (fun j => va_rf (dv_hd (va_up L b l' j))))) (hc : dv_ch g h5 l') (hix : ∀ x ∈ l', dv_ix (dv_ek x) q = b)
    (n1 : ((l' ++ dv_re L b q).map (·.1)).Nodup) (n2 : ((l' ++ dv_re L b q).map dv_ek).Nodup) : dv_tr g h5 t ta q (va_up L b l') w' := by
  obtain ⟨v1, v2, v3, v4, v5, vb⟩ := v
  have hp := dv_fl_perm L b l' hb
  refine ⟨by rw [hp.length_eq]; exact ho, ha, v3, v4, v5, vb.upd hb (fun j hj hjb => ?_) hc hix n1 n2⟩
  refine (vb.1 j hj).kp hf (dv_nin ap 5 (by decide)) (fun y hy => ?_)
  obtain ⟨o, ⟨c1, e1, e2, -⟩, -⟩ := (vb.1 j hj).mem hy
  have hy' : y ∈ dv_re L b q := dv_mem_re hj hjb hy
  have nd := dv_nodup_map_perm (dv_fl_at L hb) vb.2.2.1
  rw [List.map_append, List.nodup_append] at nd
  refine hoff y.1 (fun u hu e => nd.2.2 u.1 (List.mem_map.mpr ⟨u, hu, rfl⟩) y.1 (List.mem_map.mpr ⟨y, hy', rfl⟩) e.symm) (dv_far e1 v2 (by rw [e2]; exact ap.ne 3 11 (by decide))) ?_ (by rw [e1]; exact Option.some_ne_none _)
  obtain ⟨x, e3, e4, -⟩ := v1
  exact dv_far e1 e3 (by rw [e2, e4]; exact ap.ne 3 2 (by decide))
/-- Entry(hash, key, value, next) -/
theorem mt_e_init (l : Launch) (g : dv_P) (a b1 b2 : Nat) (k : Int32) (o : Option Nat) (hlo : dv_lo g ≤ a) : dv_M l yJ12_init (ws_ yJ12_init cJ12_init 5 none) 1 28 0 0 g [.ref a, .int k, .ref b1, .ref b2, va_rf o] [] (fun h => dv_ob g h a 3 4 [.int 0, .null, .null, .null]) (dv_kk g [2, 3, 11]) (fun v h h1 => v = none ∧ dv_ob g h1 a 3 4 [.int k, .ref b1, .ref b2, va_rf o] ∧ ∀ q, q ≠ a → h1 q = h q) := by
  refine dv_of (by decide +kernel) (by cases o <;> exact dv_cat rfl) ?_
  intro p e s m args below meth c Q cx hnm hK hM hP Ret
  have ki : dv_k g 3 ∈ dv_kk g [2, 3, 11] := dv_kin (by decide)
  refine dv_aload_n (pc := 0) cx dJ12_init_0 rfl rfl rfl ?_
  refine dv_objInit cx q375 q31 q32 rfl (by decide) (Nat.le_of_ble_eq_true rfl) dJ12_init_1 ?_
  refine dv_aload_n (pc := 4) cx dJ12_init_4 rfl rfl rfl ?_
  refine dv_iload_n (pc := 5) cx dJ12_init_5 rfl rfl ?_
  refine pf_376 cx hK hP hlo hnm rfl rfl dJ12_init_6 (fun h1 ho1 hs1 => ?_)
  refine dv_aload_n (pc := 9) cx dJ12_init_9 rfl rfl rfl ?_
  refine dv_aload_n (pc := 10) cx dJ12_init_10 rfl rfl rfl ?_
  refine pf_378 cx hK ho1 hlo hnm rfl rfl dJ12_init_11 (fun h2 ho2 hs2 => ?_)
  refine dv_aload_n (pc := 14) cx dJ12_init_14 rfl rfl rfl ?_
  refine dv_aload_n (pc := 15) cx dJ12_init_15 rfl rfl rfl ?_
  refine pf_381 cx hK ho2 hlo rfl rfl dJ12_init_16 (fun h3 ho3 hs3 => ?_)
  refine dv_aload_n (pc := 19) cx dJ12_init_19 rfl rfl rfl ?_
  refine dv_aload (pc := 20) (v := va_rf o) cx dJ12_init_20 rfl (dv_rfR _) ?_
  refine pf_384 cx hK ho3 hlo (dv_rfn _).1 (dv_rfn _).2 dJ12_init_22 (fun h4 ho4 hs4 => ?_)
  exact Ret _ _ _ _ _ _ _ (Nat.le_refl _) (Nat.le_refl _) ⟨rfl, ho4, fun q hq => by rw [hs4.ne hq, hs3.ne hq, hs2.ne hq, hs1.ne hq]⟩ ((((hP.st hs1 ki hlo).trans (ho1.st hs2 ki hlo)).trans (ho2.st hs3 ki hlo)).trans (ho3.st hs4 ki hlo)) (dv_rov dJ12_init_25)
/-- addEntry(hash, key, value, index): the key is new -/
theorem mt_t_addEntry (l : Launch) (g : dv_P) (t b1 b2 ta q : Nat) (L : Nat → List dv_E) (w k z : Int32) (kv : List (Int32 × Int32)) (hn : kv.length ≤ 1699) (hp : ((dv_fl L q).map dv_kv).Perm kv) (hno : ∀ z, (k, z) ∉ kv) : dv_M l yJ5_addEntry (ws_ yJ5_addEntry cJ5_addEntry 7 none) 2 56 2 3075 g [.ref t, .int k, .ref b1, .ref b2, .int (nI (dv_ix k q))] [] (fun h => dv_tr g h t ta q L w ∧ dv_in g h b1 k ∧ dv_in g h b2 z) (dv_kk g [2, 3, 11]) (fun v _ h1 => v = none ∧ dv_Ta g h1 t ((k, z) :: kv)) := by
  refine dv_of (by decide +kernel) (dv_cat rfl) ?_
  intro p e s m args below meth c Q cx hnm hK hM hP Ret
  have ap := hK.ap
  have n5 := dv_nin ap 5 (js := [2, 3, 11]) (by decide)
  obtain ⟨hv, hb1, hb2⟩ := hP
  have hlen : (dv_fl L q).length = kv.length := by rw [← hp.length_eq, List.length_map]
  have tail : ∀ (h : dv_H) (ta q : Nat) (L : Nat → List dv_E) (w : Int32) (k0 n0 : Nat), dv_tr g h t ta q L w → ((dv_fl L q).map dv_kv).Perm kv → dv_fr (dv_lo g) (dv_kk g [2, 3, 11]) (dv_ct s.heap) h → k0 ≤ 1 → n0 ≤ 3071 →
      dv_V (dv_lo g) p l e (dv_rm 2 56 2 3075) s m args below meth c h k0 n0 Q (dv_G none 0 m 42 [.val (.ref t), .val (.int k), .val (.ref b1), .val (.ref b2), .val (.int (nI (dv_ix k q))), .val (.ref ta), .unset] []) := by
    intro h ta q L w k0 n0 v hp hF hk0 hn0
    obtain ⟨hq0, hq1⟩ := v.q
    have hix := dv_ix_lt k hq0
    have v' := v
    obtain ⟨v1, v2, v3, v4, v5, vb⟩ := v
    have hch := vb.1 _ hix
    generalize hbk : dv_ix k q = b at hix hch
    refine dv_aload (pc := 42) cx dJ5_addEntry_42 rfl rfl ?_
    refine dv_iload (pc := 44) cx dJ5_addEntry_44 rfl ?_
    refine dv_aald (i := b) (v := va_rf (dv_hd (L b))) cx hK 1 rfl v2 rfl hix (by omega) rfl dJ5_addEntry_46 ?_
    refine dv_astore (pc := 47) cx dJ5_addEntry_47 rfl (dv_rfR _) (dv_rfC _) ?_
    refine dv_aload (pc := 49) cx dJ5_addEntry_49 rfl rfl ?_
    refine dv_iload (pc := 51) cx dJ5_addEntry_51 rfl ?_
    refine dv_new (ci := 3) (fs := [.int 0, .null, .null, .null]) (C := RJ12) (T := TJ12) (N := 4) cx hK in_J12 rfl tyJ12 tyJ12_ok q87 q371 q21 (fun j hj => by rcases (show j = 0 ∨ j = 1 ∨ j = 2 ∨ j = 3 by omega) with rfl | rfl | rfl | rfl <;> rfl) (by show k0 + 1 ≤ 2; omega) (by show n0 + 4 ≤ 3075; omega) dJ5_addEntry_53 (fun a h1 hw1 hlo1 _ ho1 => ?_)
    have hnone : h a = none := hw1.1
    refine dv_dup (pc := 56) cx dJ5_addEntry_56 rfl ?_
    refine dv_iload_n (pc := 57) cx dJ5_addEntry_57 rfl rfl ?_
    refine dv_aload_n (pc := 58) cx dJ5_addEntry_58 rfl rfl rfl ?_
    refine dv_aload_n (pc := 59) cx dJ5_addEntry_59 rfl rfl rfl ?_
    refine dv_aload (pc := 60) (v := va_rf (dv_hd (L b))) cx dJ5_addEntry_60 rfl (dv_rfR _) ?_
    have fr1 : dv_fr (dv_lo g) (dv_kk g [2, 3, 11]) h h1 := hw1.fr
    refine dv_cI (rest := [.ref a, .int (nI b), .ref ta]) (av := [.int k, .ref b1, .ref b2, va_rf (dv_hd (L b))]) cx hK (mt_e_init l g a b1 b2 k (dv_hd (L b)) hlo1) q372 q373 q21 q374 rfl (n9 := 4) ⟨by decide, by decide, by decide +kernel⟩ rfl ⟨⟨_, hF.trans fr1⟩, dv_m0, ho1, (by show k0 + 1 + 0 ≤ 2; omega), (by show n0 + 4 + 0 ≤ 3075; omega)⟩ ⟨⟨Nat.le_of_ble_eq_true rfl, Nat.le_of_ble_eq_true rfl⟩, Nat.le_of_ble_eq_true rfl⟩ rfl rfl dJ5_addEntry_62 (fun v h2 hS hf2 => ?_)
    obtain ⟨rfl, ho2, hoff2⟩ := hS
    have fr2 := fr1.trans hf2
    have hata : ta ≠ a := fun z => by rw [z, hnone] at v2; cases v2
    have hta2 : h2 ta = some (arrV (dv_k g 11) q (fun j => va_rf (dv_hd (L j)))) := by rw [hoff2 ta hata]; exact hw1.kp v2
    have hta : t ≠ a := fun z => by obtain ⟨x, e1, -⟩ := v1; rw [z, hnone] at e1; cases e1
    have htta : t ≠ ta := by
      obtain ⟨x, e1, e2, -⟩ := v1
      exact dv_far e1 v2 (by rw [e2]; exact ap.ne 2 11 (by decide))
    refine dv_aastE (i := b) (L := L) (lx := (a, b1, k, b2, z) :: L b) cx hK hta2 v4 rfl hix (by omega) (fun u hu => ⟨_, by cases hu; exact ho2⟩) dJ5_addEntry_65 ?_
    generalize hf3 : (arrV (dv_k g 11) q (fun j => va_rf (dv_hd (va_up L b ((a, b1, k, b2, z) :: L b) j)))) = A3
    have fr3 : dv_fr (dv_lo g) (dv_kk g [2, 3, 11]) h (dv_up h2 ta A3) := fr2.trans (dv_fr.up hta2 (by rw [← hf3]; rfl) (by rw [← hf3]; rfl) (dv_kin (i := 11) (by decide)) v4)
    have hta2' : h2 t = h t := by rw [hoff2 t hta]; exact hw1.ne hta
    have ho3 := v1.kept (h1 := dv_up h2 ta A3) (by rw [dv_up_ne htta]; exact hta2')
    have he3 := ho2.kept (h1 := dv_up h2 ta A3) (dv_up_ne (Ne.symm hata))
    refine dv_aload_n (pc := 66) cx dJ5_addEntry_66 rfl rfl rfl ?_
    refine dv_dup (pc := 67) cx dJ5_addEntry_67 rfl ?_
    refine gf_100 cx hK ho3 dJ5_addEntry_68 ?_
    refine dv_iconst (pc := 71) (v := 1) cx dJ5_addEntry_71 (by decide) ?_
    refine dv_iadd (v := nI ((dv_fl L q).length + 1)) cx dJ5_addEntry_72 (nI_1 _) ?_
    refine pf_100 cx hK ho3 v3 rfl rfl dJ5_addEntry_73 (fun h4 ho4 hs4 => ?_)
    have fr4 := fr3.trans (ho3.st hs4 (dv_kin (i := 2) (js := [2, 3, 11]) (by decide)) v3)
    refine dv_aload_n (pc := 76) cx dJ5_addEntry_76 rfl rfl rfl ?_
    refine dv_dup (pc := 77) cx dJ5_addEntry_77 rfl ?_
    refine gf_103 cx hK ho4 dJ5_addEntry_78 ?_
    refine dv_iconst (pc := 81) (v := 1) cx dJ5_addEntry_81 (by decide) ?_
    refine dv_iadd (pc := 82) cx dJ5_addEntry_82 rfl ?_
    refine pf_103 cx hK ho4 v3 rfl rfl dJ5_addEntry_83 (fun h5 ho5 hs5 => ?_)
    have fr5 := fr4.trans (ho4.st hs5 (dv_kin (i := 2) (js := [2, 3, 11]) (by decide)) v3)
    have hoff : ∀ y, y ≠ a → y ≠ ta → y ≠ t → h5 y = h y := fun y y1 y2 y3 => by rw [hs5.ne y3, hs4.ne y3, dv_up_ne y2, hoff2 y y1, hw1.ne y1]
    have he5 : dv_ob g h5 a 3 4 _ := he3.kept (by rw [hs5.ne (Ne.symm hta), hs4.ne (Ne.symm hta)])
    have hta5 : h5 ta = some A3 := by rw [hs5.ne (Ne.symm htta), hs4.ne (Ne.symm htta), dv_up_self]
    have hin : ∀ y ∈ L b, y.1 ≠ a := fun y hy e => by
      obtain ⟨o, ⟨c1, e1, -⟩, -⟩ := hch.mem hy
      rw [e, hnone] at e1; cases e1
    have hall : ∀ y ∈ dv_fl L q, y.1 ≠ a ∧ dv_ek y ≠ k := fun y hy => by
      obtain ⟨j, hj, hy'⟩ := dv_mem_fl.mp hy
      refine ⟨fun e => ?_, fun e => hno (dv_ev y) (hp.mem_iff.mp (List.mem_map.mpr ⟨y, hy, by show (dv_ek y, dv_ev y) = _; rw [e]⟩))⟩
      obtain ⟨o, ⟨c1, e1, -⟩, -⟩ := (vb.1 j hj).mem hy'
      rw [e, hnone] at e1; cases e1
    have hpa := dv_fl_at L hix
    have hnd : ∀ {β : Type} (f : dv_E → β), ((dv_fl L q).map f).Nodup → (∀ y ∈ dv_fl L q, f y ≠ f (a, b1, k, b2, z)) → ((((a, b1, k, b2, z) :: L b) ++ dv_re L b q).map f).Nodup := by
      intro β f n1 n2
      show ((((a, b1, k, b2, z) : dv_E) :: (L b ++ dv_re L b q)).map f).Nodup
      rw [List.map_cons, List.nodup_cons]
      refine ⟨fun hm => ?_, dv_nodup_map_perm hpa n1⟩
      obtain ⟨y, hy, ey⟩ := List.mem_map.mp hm
      exact n2 y (hpa.mem_iff.mpr hy) ey
    have hb1' : dv_in g h5 b1 k := hb1.fr (hF.trans fr5) n5
    have hb2' : dv_in g h5 b2 z := hb2.fr (hF.trans fr5) n5
    have key := v'.bkt (h5 := h5) (l' := (a, b1, k, b2, z) :: L b) (w' := w + 1) ap hix fr5 (fun y _ y2 y3 y4 => hoff y (fun e => y4 (by rw [e]; exact hnone)) y2 y3) ?_ (by rw [hf3]; exact hta5) ?_ ?_ (hnd _ vb.2.2.1 (fun y hy => (hall y hy).1)) (hnd _ vb.2.2.2 (fun y hy => (hall y hy).2))
    · refine Ret _ _ _ _ _ _ _ (by show k0 + 1 + 0 ≤ 2; omega) (by show n0 + 4 + 0 ≤ 3075; omega) ⟨rfl, ta, q, _, _, key, ?_⟩ (hF.trans fr5) (dv_rov dJ5_addEntry_86)
      exact ((dv_fl_cons L (a, b1, k, b2, z) hix).map dv_kv).trans (hp.cons _)
    · have z1 : ((((a, b1, k, b2, z) : dv_E) :: L b) ++ dv_re L b q).length = (dv_fl L q).length + 1 := by
        rw [hpa.length_eq]; rfl
      rw [z1]
      exact ho5
    · refine ⟨⟨he5, hb1', hb2', hlo1⟩, hch.kp fr5 n5 (fun y hy => ?_)⟩
      obtain ⟨o, ⟨c1, e1, e2, -⟩, -⟩ := hch.mem hy
      refine hoff y.1 (hin y hy) (dv_far e1 v2 (by rw [e2]; exact ap.ne 3 11 (by decide))) ?_
      obtain ⟨x, e3, e4, -⟩ := v1
      exact dv_far e1 e3 (by rw [e2, e4]; exact ap.ne 3 2 (by decide))
    · intro y hy
      rcases List.mem_cons.mp hy with rfl | hy
      · exact hbk
      · exact vb.2.1 b hix y hy
  have hq := hv.q
  refine dv_aload_n (pc := 0) cx dJ5_addEntry_0 rfl rfl rfl ?_
  refine gf_99 cx hK hv.1 dJ5_addEntry_1 ?_
  refine dv_astore (pc := 4) cx dJ5_addEntry_4 rfl rfl rfl ?_
  refine dv_aload_n (pc := 6) cx dJ5_addEntry_6 rfl rfl rfl ?_
  refine gf_100 cx hK hv.1 dJ5_addEntry_7 ?_
  refine dv_aload_n (pc := 10) cx dJ5_addEntry_10 rfl rfl rfl ?_
  refine gf_101 cx hK hv.1 dJ5_addEntry_11 ?_
  refine dv_icmp_lt (tgt := 42) cx dJ5_addEntry_14 (by decide) (fun hc => ?_) (fun hc => ?_)
  · exact tail _ ta q L w 0 0 hv hp dv_fr.rf (by decide) (by decide)
  · have hge : 3 * q / 4 ≤ (dv_fl L q).length := by
      rcases Nat.lt_or_ge (dv_fl L q).length (3 * q / 4) with z | z
      · exact absurd (nI_lt z (by omega)) hc
      · exact z
    refine dv_aload_n (pc := 17) cx dJ5_addEntry_17 rfl rfl rfl ?_
    refine dv_cV (C := RJ5) (rest := []) (av := []) cx hK (mt_t_rehash l g t ta q L w (by omega) hge) q366 q367 q368 q12 q369 (n9 := 0) ⟨by decide, by decide, by decide +kernel⟩ rfl (hv.1.rc hK rfl) ⟨⟨[], dv_fr.rf⟩, dv_m0, hv, (by decide), (by decide)⟩ ⟨⟨Nat.le_of_ble_eq_true rfl, Nat.le_of_ble_eq_true rfl⟩, Nat.le_of_ble_eq_true rfl⟩ rfl rfl dJ5_addEntry_18 (fun v h1 hS hf => ?_)
    obtain ⟨rfl, na, L', w', hv1, hp1⟩ := hS
    have hq1 := hv1.q
    have hp2 : ((dv_fl L' (2 * q + 1)).map dv_kv).Perm kv := (hp1.map dv_kv).trans hp
    generalize 2 * q + 1 = q' at hv1 hp2 hq1
    refine dv_aload_n (pc := 21) cx dJ5_addEntry_21 rfl rfl rfl ?_
    refine gf_99 cx hK hv1.1 dJ5_addEntry_22 ?_
    refine dv_astore (pc := 25) cx dJ5_addEntry_25 rfl rfl rfl ?_
    refine dv_aload_n (pc := 27) cx dJ5_addEntry_27 rfl rfl rfl ?_
    have hb1' := hb1.fr hf n5
    refine dv_cO (C := RJ9) (x := dv_xHc) (rest := []) (av := []) cx hK (mt_hashCode l g b1 k) hK.2.2.1.2.2.2.2.2.2.2.2.2.1 q349 q351 q354 q353 q16 q355 (n9 := 0) ⟨by decide, by decide, by decide +kernel⟩ rfl (hb1'.rc hK) ⟨⟨_, hf⟩, dv_m0, hb1', (by decide), (by decide)⟩ ⟨⟨Nat.le_of_ble_eq_true rfl, Nat.le_of_ble_eq_true rfl⟩, Nat.le_of_ble_eq_true rfl⟩ rfl rfl dJ5_addEntry_28 (fun v h1 hS hf => ?_)
    obtain ⟨rfl, rfl⟩ := hS
    refine dv_istore_n (pc := 31) cx dJ5_addEntry_31 rfl rfl ?_
    refine dv_iload_n (pc := 32) cx dJ5_addEntry_32 rfl rfl ?_
    refine dv_ldc (pc := 33) cx q360 dJ5_addEntry_33 ?_
    refine dv_iand (pc := 35) cx dJ5_addEntry_35 rfl ?_
    refine dv_aload (pc := 36) cx dJ5_addEntry_36 rfl rfl ?_
    refine dv_alen (v := nI q') cx hK 1 rfl hv1.2.1 rfl dJ5_addEntry_38 ?_
    refine dv_irem (v := nI (dv_ix k q')) cx dJ5_addEntry_39 (nI_ne0 hq1.1 (by omega)) (dv_ix_rem k hq1.1 (by omega)) ?_
    refine dv_istore (pc := 40) cx dJ5_addEntry_40 rfl ?_
    exact tail _ na q' L' w' _ _ hv1 hp2 (by assumption) (by decide) (by decide)
/-- put(k, z) -/
theorem mt_t_put (l : Launch) (g : dv_P) (t b1 b2 : Nat) (k z : Int32) (kv : List (Int32 × Int32)) (hn : kv.length ≤ 1699) (hlo : dv_lo g ≤ t) : dv_M l yJ5_put (wsY_ yJ5_put cJ5_put 8 (some (.object "java/lang/Object"))) 3 84 2 3075 g [.ref t, .ref b1, .ref b2] [t] (fun h => dv_Ta g h t kv ∧ dv_in g h b1 k ∧ dv_in g h b2 z) (dv_kk g [2, 3, 11]) (fun v h h1 => dv_Lk g kv k v h ∧ dv_Ta g h1 t ((k, z) :: dv_wo k kv)) := by
  refine dv_ofS (by decide +kernel) (dv_cat rfl) q345 List.mem_cons_self hlo ?_
  intro p e s m args below meth c Q cx hnm hK hM hP Ret
  have ap := hK.ap
  obtain ⟨⟨ta, q, L, w, hv, hp⟩, hb1, hb2⟩ := hP
  obtain ⟨hq0, hq1⟩ := hv.q
  have hix := dv_ix_lt k hq0
  have hch := hv.2.2.2.2.2.1 _ hix
  have loop : ∀ (rs pre : List dv_E), L (dv_ix k q) = pre ++ rs → (∀ y ∈ pre, dv_ek y ≠ k) → dv_ch g (dv_ct s.heap) rs →
      dv_V (dv_lo g) p l e (dv_rm 3 84 2 3075) s m args below meth c (dv_ct s.heap) 0 0 Q (dv_G (some t) 1 m 39 [.val (.ref t), .val (.ref b1), .val (.ref b2), .val (.ref ta), .val (.int k), .val (.int (nI (dv_ix k q))), .val (va_rf (dv_hd rs)), .unset] []) := by
    intro rs
    induction rs with
    | nil =>
      intro pre hpre hno _
      have hno' := hv.none hp (k := k) (fun y hy => hno y (by rw [hpre, List.append_nil] at hy; exact hy))
      refine dv_aload (pc := 39) (v := .null) cx dJ5_put_39 rfl rfl ?_
      refine dv_ifnullN (tgt := 92) cx dJ5_put_41 (by decide) ?_
      refine dv_aload_n (pc := 92) cx dJ5_put_92 rfl rfl rfl ?_
      refine dv_iload (pc := 93) cx dJ5_put_93 rfl ?_
      refine dv_aload_n (pc := 95) cx dJ5_put_95 rfl rfl rfl ?_
      refine dv_aload_n (pc := 96) cx dJ5_put_96 rfl rfl rfl ?_
      refine dv_iload (pc := 97) cx dJ5_put_97 rfl ?_
      refine dv_cV (C := RJ5) (rest := []) (av := [.int k, .ref b1, .ref b2, .int (nI (dv_ix k q))]) cx hK (mt_t_addEntry l g t b1 b2 ta q L w k z kv hn hp hno') q362 q364 qs3 q12 q365 (n9 := 4) ⟨by decide, by decide, by decide +kernel⟩ rfl (hv.1.rc hK rfl) ⟨⟨[], dv_fr.rf⟩, dv_m0, ⟨hv, hb1, hb2⟩, (by decide), (by decide)⟩ ⟨⟨Nat.le_of_ble_eq_true rfl, Nat.le_of_ble_eq_true rfl⟩, Nat.le_of_ble_eq_true rfl⟩ rfl rfl dJ5_put_99 (fun v h1 hS hf => ?_)
      obtain ⟨rfl, hT⟩ := hS
      refine dv_null (pc := 102) cx dJ5_put_102 ?_
      exact Ret _ _ _ _ _ _ _ (Nat.le_refl _) (Nat.le_refl _) ⟨Or.inr ⟨hno', rfl⟩, by rw [dv_wo0 hno']; exact hT⟩ hf (dv_roq dJ5_put_103)
    | cons x r ih =>
      intro pre hpre hno hc
      obtain ⟨⟨ho, hik, hiv, hxlo⟩, hcr⟩ := hc
      refine dv_aload (pc := 39) (v := .ref x.1) cx dJ5_put_39 rfl rfl ?_
      refine dv_ifnull cx dJ5_put_41 ?_
      refine dv_aload (pc := 44) (v := .ref x.1) cx dJ5_put_44 rfl rfl ?_
      refine gf_377 cx hK ho dJ5_put_46 ?_
      refine dv_iload (pc := 49) cx dJ5_put_49 rfl ?_
      have next : dv_ek x ≠ k → dv_V (dv_lo g) p l e (dv_rm 3 84 2 3075) s m args below meth c (dv_ct s.heap) 0 0 Q (dv_G (some t) 1 m 82 [.val (.ref t), .val (.ref b1), .val (.ref b2), .val (.ref ta), .val (.int k), .val (.int (nI (dv_ix k q))), .val (va_rf (dv_hd (x :: r))), .unset] []) := by
        intro hne
        refine dv_aload (pc := 82) (v := .ref x.1) cx dJ5_put_82 rfl rfl ?_
        refine gf_386 cx hK ho dJ5_put_84 ?_
        refine dv_astore (pc := 87) cx dJ5_put_87 rfl (dv_rfR _) (dv_rfC _) ?_
        refine dv_goto (pc := 89) (tgt := 39) cx dJ5_put_89 (by decide) ?_
        exact ih (pre ++ [x]) (by rw [hpre, List.append_assoc]; rfl) (fun y hy => by
          rcases List.mem_append.mp hy with z | z
          · exact hno y z
          · rw [List.mem_singleton.mp z]; exact hne) hcr
      refine dv_icmp_ne (tgt := 82) cx dJ5_put_51 (by decide) (fun hc => next hc) (fun hc => ?_)
      refine dv_aload (pc := 54) (v := .ref x.1) cx dJ5_put_54 rfl rfl ?_
      refine gf_380 cx hK ho dJ5_put_56 ?_
      refine dv_aload_n (pc := 59) cx dJ5_put_59 rfl rfl rfl ?_
      refine dv_cO (C := RJ9) (x := dv_xEq) (rest := []) (av := [.ref b1]) cx hK (mt_equals l g x.2.1 b1 x.2.2.1 k) hK.2.2.1.2.2.2.2.2.2.2.2.1 q361 q287 q290 q289 q16 q291 (n9 := 1) ⟨by decide, by decide, by decide +kernel⟩ rfl (hik.rc hK) ⟨⟨[], dv_fr.rf⟩, dv_m0, ⟨hik, hb1⟩, Nat.zero_le _, Nat.zero_le _⟩ ⟨⟨Nat.le_of_ble_eq_true rfl, Nat.le_of_ble_eq_true rfl⟩, Nat.le_of_ble_eq_true rfl⟩ rfl rfl dJ5_put_60 (fun v h1 hS hf => ?_)
      obtain ⟨rfl, rfl⟩ := hS
      rw [if_pos hc]
      refine dv_if_eq (tgt := 82) cx dJ5_put_63 (by decide) (fun z => absurd z (by decide)) (fun _ => ?_)
      refine dv_aload (pc := 66) (v := .ref x.1) cx dJ5_put_66 rfl rfl ?_
      refine gf_383 cx hK ho dJ5_put_68 ?_
      refine dv_astore (pc := 71) cx dJ5_put_71 rfl rfl rfl ?_
      refine dv_aload (pc := 73) (v := .ref x.1) cx dJ5_put_73 rfl rfl ?_
      refine dv_aload_n (pc := 75) cx dJ5_put_75 rfl rfl rfl ?_
      refine pf_383 cx hK ho hxlo rfl rfl dJ5_put_76 (fun h1 ho1 hs1 => ?_)
      have f1 : dv_fr (dv_lo g) (dv_kk g [2, 3, 11]) (dv_ct s.heap) h1 := ho.st hs1 (dv_kin (i := 3) (by decide)) hxlo
      have n5 := dv_nin ap 5 (js := [2, 3, 11]) (by decide)
      have hxm : x ∈ L (dv_ix k q) := by rw [hpre]; exact List.mem_append_right _ List.mem_cons_self
      refine dv_aload (pc := 79) cx dJ5_put_79 rfl rfl ?_
      have v' := hv
      obtain ⟨v1, v2, v3, v4, v5, vb⟩ := hv
      have hpa := dv_fl_at L hix
      rw [hpre] at hpa hch
      have e1 : ∀ {β : Type} (f : dv_E → β), f (x.1, x.2.1, x.2.2.1, b2, z) = f x → ((pre ++ (x.1, x.2.1, x.2.2.1, b2, z) :: r) ++ dv_re L (dv_ix k q) q).map f = ((pre ++ x :: r) ++ dv_re L (dv_ix k q) q).map f := by
        intro β f hf
        simp only [List.map_append, List.map_cons, hf]
      have n1 := dv_nodup_map_perm hpa vb.2.2.1
      have hpn : ∀ y, y ∈ pre ∨ y ∈ r → y.1 ≠ x.1 := by
        intro y hy ey
        rw [List.map_append, List.nodup_append] at n1
        have n2 := n1.1
        rw [List.map_append, List.map_cons, List.nodup_append, List.nodup_cons] at n2
        rcases hy with hy | hy
        · exact n2.2.2 y.1 (List.mem_map.mpr ⟨y, hy, rfl⟩) x.1 List.mem_cons_self ey
        · exact n2.2.1.1 (List.mem_map.mpr ⟨y, hy, ey⟩)
      have hta : ta ≠ x.1 := by
        obtain ⟨y, e1, e2, -⟩ := ho
        exact dv_far v2 e1 (by rw [e2]; exact ap.ne 11 3 (by decide))
      have htx : t ≠ x.1 := by
        obtain ⟨y, e1, e2, -⟩ := ho
        obtain ⟨y', e3, e4, -⟩ := v1
        exact dv_far e3 e1 (by rw [e2, e4]; exact ap.ne 2 3 (by decide))
      have key := v'.bkt (h5 := h1) (l' := pre ++ (x.1, x.2.1, x.2.2.1, b2, z) :: r) (w' := w) ap hix f1 (fun y y1 _ _ _ => hs1.ne (y1 x hxm)) ?_ ?_ ?_ ?_ (by rw [e1 _ rfl]; exact n1) (by rw [e1 _ rfl]; exact dv_nodup_map_perm hpa vb.2.2.2)
      · refine Ret _ _ _ _ _ _ _ (Nat.zero_le _) (Nat.zero_le _) ⟨Or.inl ⟨dv_ev x, _, (v'.find hp).mpr ⟨x, hxm, congrArg (fun u => (u, dv_ev x)) hc⟩, rfl, hiv⟩, ta, q, _, w, key, ?_⟩ f1 (dv_roa dJ5_put_81)
        have hpm := (dv_fl_perm L (dv_ix k q) (pre ++ (x.1, x.2.1, x.2.2.1, b2, z) :: r) hix).map dv_kv
        have q1 : (((pre ++ (x.1, x.2.1, x.2.2.1, b2, z) :: r) ++ dv_re L (dv_ix k q) q).map dv_kv).Perm ((x.2.2.1, z) :: (((pre ++ r) ++ dv_re L (dv_ix k q) q).map dv_kv)) := by
          rw [List.append_assoc, List.append_assoc]
          exact (List.perm_middle (l₁ := pre) (l₂ := r ++ dv_re L (dv_ix k q) q)).map dv_kv
        have q2 : kv.Perm ((x.2.2.1, dv_ev x) :: (((pre ++ r) ++ dv_re L (dv_ix k q) q).map dv_kv)) := by
          refine hp.symm.trans ((hpa.map dv_kv).trans ?_)
          rw [List.append_assoc, List.append_assoc]
          exact (List.perm_middle (l₁ := pre) (l₂ := r ++ dv_re L (dv_ix k q) q)).map dv_kv
        have q3 : ∀ z, (x.2.2.1, z) ∉ ((pre ++ r) ++ dv_re L (dv_ix k q) q).map dv_kv := by
          intro u hu
          obtain ⟨y, hy, ey⟩ := List.mem_map.mp hu
          have n2 := dv_nodup_map_perm hpa vb.2.2.2
          rw [List.append_assoc] at n2
          have n3 := dv_nodup_map_perm (List.perm_middle (l₁ := pre) (l₂ := r ++ dv_re L (dv_ix k q) q)) n2
          rw [List.map_cons, List.nodup_cons] at n3
          rw [List.append_assoc] at hy
          exact n3.1 (List.mem_map.mpr ⟨y, hy, congrArg (fun u : Int32 × Int32 => u.1) ey⟩)
        have hc' : x.2.2.1 = k := hc
        rw [hc'] at q2 q3
        exact hpm.trans (q1.trans (by rw [hc']; exact (dv_wo1 q2 q3).symm.cons _))
      · have z1 : ((pre ++ (x.1, x.2.1, x.2.2.1, b2, z) :: r) ++ dv_re L (dv_ix k q) q).length = (dv_fl L q).length := by
          rw [hpa.length_eq]; simp
        rw [z1]
        exact v1.kept (hs1.ne htx)
      · rw [hs1.ne hta, v2, dv_upL, show dv_hd (pre ++ (x.1, x.2.1, x.2.2.1, b2, z) :: r) = dv_hd (L (dv_ix k q)) from by rw [hpre]; exact dv_hd_app (l := x :: r) (l' := (x.1, x.2.1, x.2.2.1, b2, z) :: r) rfl pre]
        congr 2
        funext j
        by_cases ej : j = dv_ix k q
        · rw [ej]; exact (if_pos rfl).symm
        · exact (if_neg ej).symm
      · refine dv_ch.rep f1 n5 (l := x :: r) (l' := (x.1, x.2.1, x.2.2.1, b2, z) :: r) rfl ?_ hch (fun y hy => hs1.ne (hpn y (Or.inl hy)))
        exact ⟨⟨ho1, hik.fr f1 n5, hb2.fr f1 n5, hxlo⟩, hcr.kp f1 n5 (fun y hy => hs1.ne (hpn y (Or.inr hy)))⟩
      · intro y hy
        rcases List.mem_append.mp hy with hy | hy
        · exact vb.2.1 _ hix y (by rw [hpre]; exact List.mem_append_left _ hy)
        · rcases List.mem_cons.mp hy with rfl | hy
          · exact vb.2.1 _ hix x hxm
          · exact vb.2.1 _ hix y (by rw [hpre]; exact List.mem_append_right _ (List.mem_cons_of_mem _ hy))
  refine dv_aload_n (pc := 0) cx dJ5_put_0 rfl rfl rfl ?_
  refine dv_ifnonnull (tgt := 12) cx dJ5_put_1 (by decide) ?_
  refine dv_aload_n (pc := 12) cx dJ5_put_12 rfl rfl rfl ?_
  refine gf_99 cx hK hv.1 dJ5_put_13 ?_
  refine dv_astore_n (pc := 16) cx dJ5_put_16 rfl rfl rfl rfl ?_
  refine dv_aload_n (pc := 17) cx dJ5_put_17 rfl rfl rfl ?_
  refine dv_cO (C := RJ9) (x := dv_xHc) (rest := []) (av := []) cx hK (mt_hashCode l g b1 k) hK.2.2.1.2.2.2.2.2.2.2.2.2.1 q349 q351 q354 q353 q16 q355 (n9 := 0) ⟨by decide, by decide, by decide +kernel⟩ rfl (hb1.rc hK) ⟨⟨[], dv_fr.rf⟩, dv_m0, hb1, Nat.zero_le _, Nat.zero_le _⟩ ⟨⟨Nat.le_of_ble_eq_true rfl, Nat.le_of_ble_eq_true rfl⟩, Nat.le_of_ble_eq_true rfl⟩ rfl rfl dJ5_put_18 (fun v h1 hS hf => ?_)
  obtain ⟨rfl, rfl⟩ := hS
  refine dv_istore (pc := 21) cx dJ5_put_21 rfl ?_
  refine dv_iload (pc := 23) cx dJ5_put_23 rfl ?_
  refine dv_ldc (pc := 25) cx q360 dJ5_put_25 ?_
  refine dv_iand (pc := 27) cx dJ5_put_27 rfl ?_
  refine dv_aload_n (pc := 28) cx dJ5_put_28 rfl rfl rfl ?_
  refine dv_alen (v := nI q) cx hK 1 rfl hv.2.1 rfl dJ5_put_29 ?_
  refine dv_irem (v := nI (dv_ix k q)) cx dJ5_put_30 (nI_ne0 hq0 (by omega)) (dv_ix_rem k hq0 (by omega)) ?_
  refine dv_istore (pc := 31) cx dJ5_put_31 rfl ?_
  refine dv_aload_n (pc := 33) cx dJ5_put_33 rfl rfl rfl ?_
  refine dv_iload (pc := 34) cx dJ5_put_34 rfl ?_
  refine dv_aald (i := dv_ix k q) (v := va_rf (dv_hd (L (dv_ix k q)))) cx hK 1 rfl hv.2.1 rfl hix (by omega) rfl dJ5_put_36 ?_
  refine dv_astore (pc := 37) cx dJ5_put_37 rfl (dv_rfR _) (dv_rfC _) ?_
  exact loop (L (dv_ix k q)) [] rfl (fun y hy => absurd hy List.not_mem_nil) hch
end
section
/-! ===== Hashtable: remove ===== -/
set_option maxRecDepth 100000
/-- remove(k) -/
theorem mt_t_remove (l : Launch) (g : dv_P) (t b1 : Nat) (k : Int32) (kv : List (Int32 × Int32)) (hn : kv.length ≤ 1700) (hlo : dv_lo g ≤ t) : dv_M l yJ5_remove (wsY_ yJ5_remove cJ5_remove 8 (some (.object "java/lang/Object"))) 2 56 0 0 g [.ref t, .ref b1] [t] (fun h => dv_Ta g h t kv ∧ dv_in g h b1 k) (dv_kk g [2, 3, 11]) (fun v h h1 => dv_Lk g kv k v h ∧ dv_Ta g h1 t (dv_wo k kv)) := by
  refine dv_ofS (by decide +kernel) (dv_cat rfl) q409 List.mem_cons_self hlo ?_
  intro p e s m args below meth c Q cx hnm hK hM hP Ret
  have ap := hK.ap
  obtain ⟨⟨ta, q, L, w, hv, hp⟩, hb1⟩ := hP
  obtain ⟨hq0, hq1⟩ := hv.q
  have hix := dv_ix_lt k hq0
  have hch := hv.2.2.2.2.2.1 _ hix
  have n5 := dv_nin ap 5 (js := [2, 3, 11]) (by decide)
  have loop : ∀ (rs pre : List dv_E) (o : Option dv_E), L (dv_ix k q) = (pre ++ o.toList) ++ rs → (o = none → pre = []) → (∀ y ∈ pre ++ o.toList, dv_ek y ≠ k) → dv_ch g (dv_ct s.heap) rs →
      dv_V (dv_lo g) p l e (dv_rm 2 56 0 0) s m args below meth c (dv_ct s.heap) 0 0 Q (dv_G (some t) 1 m 28 [.val (.ref t), .val (.ref b1), .val (.ref ta), .val (.int k), .val (.int (nI (dv_ix k q))), .val (va_rf (dv_hd rs)), .val (va_rf (o.map (·.1))), .unset] []) := by
    intro rs
    induction rs with
    | nil =>
      intro pre o hpre ho hno _
      have hno' := hv.none hp (k := k) (fun y hy => hno y (by rw [hpre, List.append_nil] at hy; exact hy))
      refine dv_aload (pc := 28) (v := .null) cx dJ5_remove_28 rfl rfl ?_
      refine dv_ifnullN (tgt := 131) cx dJ5_remove_30 (by decide) ?_
      refine dv_null (pc := 131) cx dJ5_remove_131 ?_
      exact Ret _ _ _ _ _ _ _ (Nat.le_refl _) (Nat.le_refl _) ⟨Or.inr ⟨hno', rfl⟩, by rw [dv_wo0 hno']; exact ⟨ta, q, L, w, hv, hp⟩⟩ dv_fr.rf (dv_roq dJ5_remove_132)
    | cons x r ih =>
      intro pre o hpre hopre hno hc
      have hcx := hc
      obtain ⟨⟨ho, hik, hiv, hxlo⟩, hcr⟩ := hc
      refine dv_aload (pc := 28) (v := .ref x.1) cx dJ5_remove_28 rfl rfl ?_
      refine dv_ifnull cx dJ5_remove_30 ?_
      refine dv_aload (pc := 33) (v := .ref x.1) cx dJ5_remove_33 rfl rfl ?_
      refine gf_377 cx hK ho dJ5_remove_35 ?_
      refine dv_iload_n (pc := 38) cx dJ5_remove_38 rfl rfl ?_
      have next : dv_ek x ≠ k → dv_V (dv_lo g) p l e (dv_rm 2 56 0 0) s m args below meth c (dv_ct s.heap) 0 0 Q (dv_G (some t) 1 m 117 [.val (.ref t), .val (.ref b1), .val (.ref ta), .val (.int k), .val (.int (nI (dv_ix k q))), .val (va_rf (dv_hd (x :: r))), .val (va_rf (o.map (·.1))), .unset] []) := by
        intro hne
        refine dv_aload (pc := 117) (v := .ref x.1) cx dJ5_remove_117 rfl rfl ?_
        refine dv_astore (pc := 119) cx dJ5_remove_119 (by cases o <;> rfl) rfl rfl ?_
        refine dv_aload (pc := 121) (v := .ref x.1) cx dJ5_remove_121 rfl rfl ?_
        refine gf_386 cx hK ho dJ5_remove_123 ?_
        refine dv_astore (pc := 126) cx dJ5_remove_126 rfl (dv_rfR _) (dv_rfC _) ?_
        refine dv_goto (pc := 128) (tgt := 28) cx dJ5_remove_128 (by decide) ?_
        exact ih (pre ++ o.toList) (some x) (by rw [hpre]; simp) (fun z => by cases z) (fun y hy => by
          rcases List.mem_append.mp hy with z | z
          · exact hno y z
          · rw [List.mem_singleton.mp z]; exact hne) hcr
      refine dv_icmp_ne (tgt := 117) cx dJ5_remove_39 (by decide) (fun hc => next hc) (fun hc => ?_)
      refine dv_aload (pc := 42) (v := .ref x.1) cx dJ5_remove_42 rfl rfl ?_
      refine gf_380 cx hK ho dJ5_remove_44 ?_
      refine dv_aload_n (pc := 47) cx dJ5_remove_47 rfl rfl rfl ?_
      refine dv_cO (C := RJ9) (x := dv_xEq) (rest := []) (av := [.ref b1]) cx hK (mt_equals l g x.2.1 b1 x.2.2.1 k) hK.2.2.1.2.2.2.2.2.2.2.2.1 q361 q287 q290 q289 q16 q291 (n9 := 1) ⟨by decide, by decide, by decide +kernel⟩ rfl (hik.rc hK) ⟨⟨[], dv_fr.rf⟩, dv_m0, ⟨hik, hb1⟩, Nat.zero_le _, Nat.zero_le _⟩ ⟨⟨Nat.le_of_ble_eq_true rfl, Nat.le_of_ble_eq_true rfl⟩, Nat.le_of_ble_eq_true rfl⟩ rfl rfl dJ5_remove_48 (fun v h1 hS hf => ?_)
      obtain ⟨rfl, rfl⟩ := hS
      rw [if_pos hc]
      refine dv_if_eq (tgt := 117) cx dJ5_remove_51 (by decide) (fun z => absurd z (by decide)) (fun _ => ?_)
      have hc' : x.2.2.1 = k := hc
      have hxm : x ∈ L (dv_ix k q) := by rw [hpre]; exact List.mem_append_right _ List.mem_cons_self
      have v' := hv
      obtain ⟨v1, v2, v3, v4, v5, vb⟩ := hv
      have hpa := dv_fl_at L hix
      rw [hpre] at hpa hch
      generalize hP0 : pre ++ o.toList = P at hpre hno hpa hch
      have hpx : (dv_fl L q).Perm (x :: ((P ++ r) ++ dv_re L (dv_ix k q) q)) := by
        refine hpa.trans ?_
        rw [List.append_assoc, List.append_assoc]
        exact List.perm_middle
      have n1 := dv_nodup_map_perm hpx vb.2.2.1
      have n2 := dv_nodup_map_perm hpx vb.2.2.2
      rw [List.map_cons, List.nodup_cons] at n1 n2
      have hpn : ∀ y, y ∈ P ++ r → y.1 ≠ x.1 := fun y hy ey => n1.1 (List.mem_map.mpr ⟨y, List.mem_append_left _ hy, ey⟩)
      have hta : ta ≠ x.1 := by
        obtain ⟨y, e1, e2, -⟩ := ho
        exact dv_far v2 e1 (by rw [e2]; exact ap.ne 11 3 (by decide))
      have htx : t ≠ x.1 := by
        obtain ⟨y, e1, e2, -⟩ := ho
        obtain ⟨y', e3, e4, -⟩ := v1
        exact dv_far e3 e1 (by rw [e2, e4]; exact ap.ne 2 3 (by decide))
      have htta : t ≠ ta := by
        obtain ⟨y', e3, e4, -⟩ := v1
        exact dv_far e3 v2 (by rw [e4]; exact ap.ne 2 11 (by decide))
      have ent : ∀ y ∈ L (dv_ix k q), y.1 ≠ t ∧ y.1 ≠ ta := by
        intro y hy
        obtain ⟨o, ⟨c1, e1, e2, -⟩, -⟩ := (vb.1 _ hix).mem hy
        refine ⟨?_, dv_far e1 v2 (by rw [e2]; exact ap.ne 3 11 (by decide))⟩
        obtain ⟨y', e3, e4, -⟩ := v1
        exact dv_far e1 e3 (by rw [e2, e4]; exact ap.ne 3 2 (by decide))
      have hsub : ∀ y, y ∈ P ++ r → y ∈ L (dv_ix k q) := by
        intro y hy
        rw [hpre]
        rcases List.mem_append.mp hy with z | z
        · exact List.mem_append_left _ z
        · exact List.mem_append_right _ (List.mem_cons_of_mem _ z)
      have hlp : (dv_fl L q).length = ((P ++ r) ++ dv_re L (dv_ix k q) q).length + 1 := by rw [hpx.length_eq]; rfl
      have tail : ∀ (h2 : dv_H), dv_fr (dv_lo g) (dv_kk g [2, 3, 11]) (dv_ct s.heap) h2 → (∀ y, (∀ u ∈ P, y ≠ u.1) → y ≠ ta → h2 y = dv_ct s.heap y) → h2 ta = some (arrV (dv_k g 11) q (fun j => va_rf (dv_hd (va_up L (dv_ix k q) (P ++ r) j)))) → dv_ch g h2 (P ++ r) →
          dv_V (dv_lo g) p l e (dv_rm 2 56 0 0) s m args below meth c h2 0 0 Q (dv_G (some t) 1 m 81 [.val (.ref t), .val (.ref b1), .val (.ref ta), .val (.int k), .val (.int (nI (dv_ix k q))), .val (.ref x.1), .val (va_rf (o.map (·.1))), .unset] []) := by
        intro h2 f2 hoff2 ha2 hc2
        have ht2 : h2 t = dv_ct s.heap t := hoff2 t (fun u hu e => (ent u (hsub u (List.mem_append_left _ hu))).1 e.symm) htta
        have hx2 : h2 x.1 = dv_ct s.heap x.1 := hoff2 x.1 (fun u hu e => hpn u (List.mem_append_left _ hu) e.symm) (Ne.symm hta)
        have ho2 := v1.kept ht2
        have hx2' := ho.kept hx2
        refine dv_aload_n (pc := 81) cx dJ5_remove_81 rfl rfl rfl ?_
        refine dv_dup (pc := 82) cx dJ5_remove_82 rfl ?_
        refine gf_103 cx hK ho2 dJ5_remove_83 ?_
        refine dv_iconst (pc := 86) (v := 1) cx dJ5_remove_86 (by decide) ?_
        refine dv_iadd (pc := 87) cx dJ5_remove_87 rfl ?_
        refine pf_103 cx hK ho2 v3 rfl rfl dJ5_remove_88 (fun h3 ho3 hs3 => ?_)
        have f3 := f2.trans (ho2.st hs3 (dv_kin (i := 2) (js := [2, 3, 11]) (by decide)) v3)
        refine dv_aload_n (pc := 91) cx dJ5_remove_91 rfl rfl rfl ?_
        refine dv_dup (pc := 92) cx dJ5_remove_92 rfl ?_
        refine gf_100 cx hK ho3 dJ5_remove_93 ?_
        refine dv_iconst (pc := 96) (v := 1) cx dJ5_remove_96 (by decide) ?_
        refine dv_isub (v := nI ((P ++ r) ++ dv_re L (dv_ix k q) q).length) cx dJ5_remove_97 (by rw [hlp]; exact nI_pred _) ?_
        refine pf_100 cx hK ho3 v3 rfl rfl dJ5_remove_98 (fun h4 ho4 hs4 => ?_)
        have f4 := f3.trans (ho3.st hs4 (dv_kin (i := 2) (js := [2, 3, 11]) (by decide)) v3)
        have hx4 := hx2'.kept (h1 := h4) (by rw [hs4.ne (Ne.symm htx), hs3.ne (Ne.symm htx)])
        refine dv_aload (pc := 101) cx dJ5_remove_101 rfl rfl ?_
        refine gf_383 cx hK hx4 dJ5_remove_103 ?_
        refine dv_astore (pc := 106) cx dJ5_remove_106 rfl rfl rfl ?_
        refine dv_aload (pc := 108) cx dJ5_remove_108 rfl rfl ?_
        refine dv_null (pc := 110) cx dJ5_remove_110 ?_
        refine pf_383 cx hK hx4 hxlo rfl rfl dJ5_remove_111 (fun h5 ho5 hs5 => ?_)
        have f5 := f4.trans (hx4.st hs5 (dv_kin (i := 3) (js := [2, 3, 11]) (by decide)) hxlo)
        refine dv_aload (pc := 114) cx dJ5_remove_114 rfl rfl ?_
        have key := v'.bkt (h5 := h5) (l' := P ++ r) (w' := w + 1) ap hix f5 (fun y y1 y2 y3 _ => ?_) (ho4.kept (hs5.ne htx)) (by rw [hs5.ne hta, hs4.ne (Ne.symm htta), hs3.ne (Ne.symm htta)]; exact ha2) ?_ (fun y hy => vb.2.1 _ hix y (hsub y hy)) n1.2 n2.2
        · refine Ret _ _ _ _ _ _ _ (Nat.le_refl _) (Nat.le_refl _) ⟨Or.inl ⟨dv_ev x, _, (v'.find hp).mpr ⟨x, hxm, congrArg (fun u => (u, dv_ev x)) hc⟩, rfl, hiv⟩, ta, q, _, _, key, ?_⟩ f5 (dv_roa dJ5_remove_116)
          have q2 : kv.Perm ((k, dv_ev x) :: (((P ++ r) ++ dv_re L (dv_ix k q) q).map dv_kv)) := by
            have z := hp.symm.trans (hpx.map dv_kv)
            rw [List.map_cons, show dv_kv x = (k, dv_ev x) from congrArg (fun u => (u, dv_ev x)) hc] at z
            exact z
          have q3 : ∀ z, (k, z) ∉ ((P ++ r) ++ dv_re L (dv_ix k q) q).map dv_kv := by
            intro u hu
            obtain ⟨y, hy, ey⟩ := List.mem_map.mp hu
            exact n2.1 (List.mem_map.mpr ⟨y, hy, (congrArg (fun u : Int32 × Int32 => u.1) ey).trans hc.symm⟩)
          exact ((dv_fl_perm L (dv_ix k q) (P ++ r) hix).map dv_kv).trans (dv_wo1 q2 q3).symm
        · rw [hs5.ne (y1 x hxm), hs4.ne y3, hs3.ne y3]
          exact hoff2 y (fun u hu => y1 u (hsub u (List.mem_append_left _ hu))) y2
        · refine hc2.kp (h1 := h5) (ks := dv_kk g [2, 3, 11]) (((ho2.st hs3 (dv_kin (i := 2) (by decide)) v3).trans (ho3.st hs4 (dv_kin (i := 2) (by decide)) v3)).trans (hx4.st hs5 (dv_kin (i := 3) (by decide)) hxlo)) n5 (fun y hy => ?_)
          rw [hs5.ne (hpn y hy), hs4.ne (ent y (hsub y hy)).1, hs3.ne (ent y (hsub y hy)).1]
      cases o with
      | none =>
        have hP1 : P = [] := by rw [← hP0, hopre rfl]; rfl
        subst hP1
        refine dv_aload (pc := 54) (v := .null) cx dJ5_remove_54 rfl rfl ?_
        refine dv_ifnullN (tgt := 72) cx dJ5_remove_56 (by decide) ?_
        refine dv_aload_n (pc := 72) cx dJ5_remove_72 rfl rfl rfl ?_
        refine dv_iload (pc := 73) cx dJ5_remove_73 rfl ?_
        refine dv_aload (pc := 75) (v := .ref x.1) cx dJ5_remove_75 rfl rfl ?_
        refine gf_386 cx hK ho dJ5_remove_77 ?_
        refine dv_aastE (i := dv_ix k q) (L := L) (lx := r) cx hK v2 v4 rfl hix (by omega) (fun u hu => ?_) dJ5_remove_80 ?_
        · cases r with
          | nil => cases hu
          | cons y r' => cases hu; exact ⟨_, hcr.1.1⟩
        · have f2 : dv_fr (dv_lo g) (dv_kk g [2, 3, 11]) (dv_ct s.heap) (dv_up (dv_ct s.heap) ta (arrV (dv_k g 11) q (fun j => va_rf (dv_hd (va_up L (dv_ix k q) r j))))) := dv_fr.up v2 rfl rfl (dv_kin (i := 11) (by decide)) v4
          refine tail _ f2 (fun y _ y2 => dv_up_ne y2) (dv_up_self _ _ _) (hcr.kp f2 n5 (fun y hy => dv_up_ne (ent y (hsub y hy)).2))
      | some u =>
        have hP1 : P = pre ++ [u] := hP0.symm
        subst hP1
        have hcu : dv_ch g (dv_ct s.heap) (u :: x :: r) := by
          have z := hch
          rw [List.append_assoc] at z
          exact z.tl
        obtain ⟨⟨uo, uk, uv, ul⟩, -⟩ := hcu
        have hupn : ∀ y, y ∈ pre ∨ y ∈ r → y.1 ≠ u.1 := by
          intro y hy ey
          have z := n1.2
          rw [List.map_append, List.nodup_append] at z
          have z := z.1
          rw [List.append_assoc, List.map_append, List.nodup_append] at z
          rcases hy with hy | hy
          · exact z.2.2 y.1 (List.mem_map.mpr ⟨y, hy, rfl⟩) u.1 List.mem_cons_self ey
          · have z2 := z.2.1
            rw [List.map_append, List.nodup_append] at z2
            exact z2.2.2 u.1 List.mem_cons_self y.1 (List.mem_map.mpr ⟨y, hy, rfl⟩) ey.symm
        refine dv_aload (pc := 54) (v := .ref u.1) cx dJ5_remove_54 rfl rfl ?_
        refine dv_ifnull cx dJ5_remove_56 ?_
        refine dv_aload (pc := 59) (v := .ref u.1) cx dJ5_remove_59 rfl rfl ?_
        refine dv_aload (pc := 61) (v := .ref x.1) cx dJ5_remove_61 rfl rfl ?_
        refine gf_386 cx hK ho dJ5_remove_63 ?_
        refine pf_386 cx hK uo ul (dv_rfn _).1 (dv_rfn _).2 dJ5_remove_66 (fun h2 ho2 hs2 => ?_)
        have f2 : dv_fr (dv_lo g) (dv_kk g [2, 3, 11]) (dv_ct s.heap) h2 := uo.st hs2 (dv_kin (i := 3) (by decide)) ul
        refine dv_goto (pc := 69) (tgt := 81) cx dJ5_remove_69 (by decide) ?_
        have hta2 : ta ≠ u.1 := Ne.symm (ent u (hsub u (List.mem_append_left _ (List.mem_append_right _ List.mem_cons_self)))).2
        refine tail h2 f2 (fun y y1 _ => hs2.ne (y1 u (List.mem_append_right _ List.mem_cons_self))) ?_ ?_
        · have e1 : dv_hd ((pre ++ [u]) ++ r) = dv_hd (L (dv_ix k q)) := by
            rw [hpre, List.append_assoc, List.append_assoc]
            exact dv_hd_app (l := [u] ++ x :: r) (l' := [u] ++ r) rfl pre
          rw [hs2.ne hta2, v2, dv_upL, e1]
          congr 2
          funext j
          by_cases ej : j = dv_ix k q
          · rw [ej]; exact (if_pos rfl).symm
          · exact (if_neg ej).symm
        · rw [List.append_assoc] at hch ⊢
          refine dv_ch.rep f2 n5 (l := [u] ++ x :: r) (l' := [u] ++ r) rfl ?_ hch (fun y hy => hs2.ne (hupn y (Or.inl hy)))
          exact ⟨⟨ho2, uk.fr f2 n5, uv.fr f2 n5, ul⟩, hcr.kp f2 n5 (fun y hy => hs2.ne (hupn y (Or.inr hy)))⟩
  refine dv_aload_n (pc := 0) cx dJ5_remove_0 rfl rfl rfl ?_
  refine gf_99 cx hK hv.1 dJ5_remove_1 ?_
  refine dv_astore_n (pc := 4) cx dJ5_remove_4 rfl rfl rfl rfl ?_
  refine dv_aload_n (pc := 5) cx dJ5_remove_5 rfl rfl rfl ?_
  refine dv_cO (C := RJ9) (x := dv_xHc) (rest := []) (av := []) cx hK (mt_hashCode l g b1 k) hK.2.2.1.2.2.2.2.2.2.2.2.2.1 q349 q351 q354 q353 q16 q355 (n9 := 0) ⟨by decide, by decide, by decide +kernel⟩ rfl (hb1.rc hK) ⟨⟨[], dv_fr.rf⟩, dv_m0, hb1, Nat.zero_le _, Nat.zero_le _⟩ ⟨⟨Nat.le_of_ble_eq_true rfl, Nat.le_of_ble_eq_true rfl⟩, Nat.le_of_ble_eq_true rfl⟩ rfl rfl dJ5_remove_6 (fun v h1 hS hf => ?_)
  obtain ⟨rfl, rfl⟩ := hS
  refine dv_istore_n (pc := 9) cx dJ5_remove_9 rfl rfl ?_
  refine dv_iload_n (pc := 10) cx dJ5_remove_10 rfl rfl ?_
  refine dv_ldc (pc := 11) cx q360 dJ5_remove_11 ?_
  refine dv_iand (pc := 13) cx dJ5_remove_13 rfl ?_
  refine dv_aload_n (pc := 14) cx dJ5_remove_14 rfl rfl rfl ?_
  refine dv_alen (v := nI q) cx hK 1 rfl hv.2.1 rfl dJ5_remove_15 ?_
  refine dv_irem (v := nI (dv_ix k q)) cx dJ5_remove_16 (nI_ne0 hq0 (by omega)) (dv_ix_rem k hq0 (by omega)) ?_
  refine dv_istore (pc := 17) cx dJ5_remove_17 rfl ?_
  refine dv_aload_n (pc := 19) cx dJ5_remove_19 rfl rfl rfl ?_
  refine dv_iload (pc := 20) cx dJ5_remove_20 rfl ?_
  refine dv_aald (i := dv_ix k q) (v := va_rf (dv_hd (L (dv_ix k q)))) cx hK 1 rfl hv.2.1 rfl hix (by omega) rfl dJ5_remove_22 ?_
  refine dv_astore (pc := 23) cx dJ5_remove_23 rfl (dv_rfR _) (dv_rfC _) ?_
  refine dv_null (pc := 25) cx dJ5_remove_25 ?_
  refine dv_astore (pc := 26) cx dJ5_remove_26 rfl rfl rfl ?_
  exact loop (L (dv_ix k q)) [] none rfl (fun _ => rfl) (fun y hy => absurd hy List.not_mem_nil) hch
end
section
/-! ===== the table's enumeration ===== -/
set_option maxRecDepth 100000
/-- an enumerator at en of the buckets L: rem is still to come -/
def dv_Em (g : dv_P) (h : dv_H) (en ta q : Nat) (L : Nat → List dv_E) (rem : List dv_E) : Prop :=
  ∃ (i : Nat) (rs : List dv_E) (f3 f5 f6 f7 : Value), i ≤ q ∧ dv_ob g h en 4 8 [.ref ta, .int (nI i), va_rf (dv_hd rs), f3, .int 0, f5, f6, f7] ∧ dv_ch g h rs ∧ rem = rs ++ dv_fl L i ∧ dv_lo g ≤ en
theorem dv_Em.fr {g : dv_P} {h h1 : dv_H} {en ta q : Nat} {L : Nat → List dv_E} {rem : List dv_E} {js : List Nat} (v : dv_Em g h en ta q L rem) (ap : dv_ap g) (hf : dv_fr (dv_lo g) (dv_kk g js) h h1) (hj : ([3, 4, 5].all (fun i => js.all (fun j => decide (j ∈ dv_nos) && decide (i ≠ j)))) = true) : dv_Em g h1 en ta q L rem := by
  obtain ⟨i, rs, f3, f5, f6, f7, h1, h2, h3, h4, h5⟩ := v
  simp only [List.all_cons, List.all_nil, Bool.and_true, Bool.and_eq_true] at hj
  have n3 := dv_nin ap 3 (js := js) (by rw [Bool.and_eq_true]; exact ⟨by decide, hj.1⟩)
  have n4 := dv_nin ap 4 (js := js) (by rw [Bool.and_eq_true]; exact ⟨by decide, hj.2.1⟩)
  have n5 := dv_nin ap 5 (js := js) (by rw [Bool.and_eq_true]; exact ⟨by decide, hj.2.2⟩)
  exact ⟨i, rs, f3, f5, f6, f7, h1, h2.fr hf n4, h3.fr hf n5 n3, h4, h5⟩
theorem dv_Em.rc {g : dv_P} {s : State} {h : dv_H} {en ta q : Nat} {L : Nat → List dv_E} {rem : List dv_E} (v : dv_Em g h en ta q L rem) (hK : dv_K g s) : dv_rc s h en RJ15 := by
  obtain ⟨i, rs, f3, f5, f6, f7, h1, h2, h3, h4, h5⟩ := v
  exact h2.rc hK rfl
theorem dv_rfe (o : Option Nat) : (narrow (tyJ15 2) (va_rf o) = va_rf o ∧ fits (tyJ15 2) (va_rf o) = true) ∧ narrow (tyJ15 3) (va_rf o) = va_rf o ∧ fits (tyJ15 3) (va_rf o) = true := by cases o <;> exact ⟨⟨rfl, rfl⟩, rfl, rfl⟩
abbrev dv_e0 : List Value := [.null, .int 0, .null, .null, .int 0, .int 0, .int 0, .null]
/-- Enumerator(table, KEYS, false) -/
theorem mt_en_init (l : Launch) (g : dv_P) (en t ta q : Nat) (L : Nat → List dv_E) (w : Int32) (hlo : dv_lo g ≤ en) : dv_M l yJ15_init (ws_ yJ15_init cJ15_init 4 none) 1 28 0 0 g [.ref en, .ref t, .int 0, .int 0] [] (fun h => dv_tr g h t ta q L w ∧ dv_ob g h en 4 8 dv_e0) (dv_kk g [4]) (fun v _ h1 => v = none ∧ dv_Em g h1 en ta q L (dv_fl L q)) := by
  refine dv_of (by decide +kernel) (dv_cat rfl) ?_
  intro p e s m args below meth c Q cx hnm hK hM hP Ret
  have ap := hK.ap
  obtain ⟨hv, ho⟩ := hP
  have ki : dv_k g 4 ∈ dv_kk g [4] := dv_kin (by decide)
  have n2 := dv_nin ap 2 (js := [4]) (by decide)
  have n11 := dv_nin ap 11 (js := [4]) (by decide)
  refine dv_aload_n (pc := 0) cx dJ15_init_0 rfl rfl rfl ?_
  refine dv_aload_n (pc := 1) cx dJ15_init_1 rfl rfl rfl ?_
  refine pf_470 cx hK ho hlo hnm rfl rfl dJ15_init_2 (fun h1 ho1 hs1 => ?_)
  have f1 := ho.st hs1 ki hlo
  refine dv_aload_n (pc := 5) cx dJ15_init_5 rfl rfl rfl ?_
  refine dv_objInit cx q462 q31 q32 rfl (by decide) (Nat.le_of_ble_eq_true rfl) dJ15_init_6 ?_
  refine dv_aload_n (pc := 9) cx dJ15_init_9 rfl rfl rfl ?_
  refine dv_aload_n (pc := 10) cx dJ15_init_10 rfl rfl rfl ?_
  refine gf_470 cx hK ho1 dJ15_init_11 ?_
  refine gf_98 cx hK (hv.1.fr f1 n2) dJ15_init_14 ?_
  refine pf_463 cx hK ho1 hlo hnm rfl rfl dJ15_init_17 (fun h2 ho2 hs2 => ?_)
  have f2 := f1.trans (ho1.st hs2 ki hlo)
  refine dv_aload_n (pc := 20) cx dJ15_init_20 rfl rfl rfl ?_
  refine dv_aload_n (pc := 21) cx dJ15_init_21 rfl rfl rfl ?_
  refine gf_463 cx hK ho2 dJ15_init_22 ?_
  refine dv_alen (v := nI q) cx hK 1 rfl (f2.at hv.2.1 (Or.inr n11)) rfl dJ15_init_25 ?_
  refine pf_464 cx hK ho2 hlo rfl rfl dJ15_init_26 (fun h3 ho3 hs3 => ?_)
  have f3 := f2.trans (ho2.st hs3 ki hlo)
  refine dv_aload_n (pc := 29) cx dJ15_init_29 rfl rfl rfl ?_
  refine dv_aload_n (pc := 30) cx dJ15_init_30 rfl rfl rfl ?_
  refine gf_470 cx hK ho3 dJ15_init_31 ?_
  refine gf_104 cx hK (hv.1.fr f3 n2) dJ15_init_34 ?_
  refine pf_469 cx hK ho3 hlo rfl rfl dJ15_init_37 (fun h4 ho4 hs4 => ?_)
  have f4 := f3.trans (ho3.st hs4 ki hlo)
  refine dv_aload_n (pc := 40) cx dJ15_init_40 rfl rfl rfl ?_
  refine dv_iload_n (pc := 41) cx dJ15_init_41 rfl rfl ?_
  refine pf_467 cx hK ho4 hlo hnm rfl rfl dJ15_init_42 (fun h5 ho5 hs5 => ?_)
  have f5 := f4.trans (ho4.st hs5 ki hlo)
  refine dv_aload_n (pc := 45) cx dJ15_init_45 rfl rfl rfl ?_
  refine dv_iload_n (pc := 46) cx dJ15_init_46 rfl rfl ?_
  refine pf_468 cx hK ho5 hlo hnm narrow_b0 rfl dJ15_init_47 (fun h6 ho6 hs6 => ?_)
  have f6 := f5.trans (ho5.st hs6 ki hlo)
  exact Ret _ _ _ _ _ _ _ (Nat.le_refl _) (Nat.le_refl _) ⟨rfl, q, [], _, _, _, _, Nat.le_refl _, ho6, trivial, rfl, hlo⟩ f6 (dv_rov dJ15_init_50)
/-- getEnumeration(KEYS) of a table that is not empty -/
theorem mt_t_getEnum (l : Launch) (g : dv_P) (t ta q : Nat) (L : Nat → List dv_E) (w : Int32) (hn : (dv_fl L q).length ≤ 1700) (h0 : 0 < (dv_fl L q).length) : dv_M l yJ5_getEnumeration (ws_ yJ5_getEnumeration cJ5_getEnumeration 2 (some (.object "java/util/Enumeration"))) 2 56 1 8 g [.ref t, .int 0] [] (fun h => dv_tr g h t ta q L w) (dv_kk g [4]) (fun v _ h1 => ∃ en, v = some (.ref en) ∧ dv_Em g h1 en ta q L (dv_fl L q)) := by
  refine dv_of (by decide +kernel) (dv_cat rfl) ?_
  intro p e s m args below meth c Q cx hnm hK hM hP Ret
  have ap := hK.ap
  refine dv_aload_n (pc := 0) cx dJ5_getEnumeration_0 rfl rfl rfl ?_
  refine gf_100 cx hK hP.1 dJ5_getEnumeration_1 ?_
  refine dv_if_ne (tgt := 11) cx dJ5_getEnumeration_4 (by decide) (fun _ => ?_) (fun z => absurd z (nI_ne0 h0 (by omega)))
  refine dv_new (ci := 4) (fs := dv_e0) (C := RJ15) (T := TJ15) (N := 8) cx hK in_J15 rfl tyJ15 tyJ15_ok q457 q458 q24 (fun j hj => by rcases (show j = 0 ∨ j = 1 ∨ j = 2 ∨ j = 3 ∨ j = 4 ∨ j = 5 ∨ j = 6 ∨ j = 7 by omega) with rfl | rfl | rfl | rfl | rfl | rfl | rfl | rfl <;> rfl) (Nat.le_refl _) (Nat.le_refl _) dJ5_getEnumeration_11 (fun en h1 hw1 hlo1 _ ho1 => ?_)
  have f1 : dv_fr (dv_lo g) (dv_kk g [4]) (dv_ct s.heap) h1 := hw1.fr
  refine dv_dup (pc := 14) cx dJ5_getEnumeration_14 rfl ?_
  refine dv_aload_n (pc := 15) cx dJ5_getEnumeration_15 rfl rfl rfl ?_
  refine dv_iload_n (pc := 16) cx dJ5_getEnumeration_16 rfl rfl ?_
  refine dv_iconst (pc := 17) (v := 0) cx dJ5_getEnumeration_17 (by decide) ?_
  refine dv_cI (rest := [.ref en]) (av := [.ref t, .int 0, .int 0]) cx hK (mt_en_init l g en t ta q L w hlo1) q459 q460 q24 q461 rfl (n9 := 3) ⟨by decide, by decide, by decide +kernel⟩ rfl ⟨⟨_, f1⟩, dv_m0, ⟨hP.fr ap f1 (by decide), ho1⟩, Nat.le_refl _, Nat.le_refl _⟩ ⟨⟨Nat.le_of_ble_eq_true rfl, Nat.le_of_ble_eq_true rfl⟩, Nat.le_of_ble_eq_true rfl⟩ rfl rfl dJ5_getEnumeration_18 (fun v h2 hS hf2 => ?_)
  obtain ⟨rfl, hE⟩ := hS
  exact Ret _ _ _ _ _ _ _ (Nat.le_refl _) (Nat.le_refl _) ⟨en, rfl, hE⟩ (f1.trans hf2) (dv_roa dJ5_getEnumeration_21)
/-- keys() -/
theorem mt_t_keys (l : Launch) (g : dv_P) (t ta q : Nat) (L : Nat → List dv_E) (w : Int32) (hn : (dv_fl L q).length ≤ 1700) (h0 : 0 < (dv_fl L q).length) (hlo : dv_lo g ≤ t) : dv_M l yJ5_keys (wsY_ yJ5_keys cJ5_keys 1 (some (.object "java/util/Enumeration"))) 3 84 1 8 g [.ref t] [t] (fun h => dv_tr g h t ta q L w) (dv_kk g [4]) (fun v _ h1 => ∃ en, v = some (.ref en) ∧ dv_Em g h1 en ta q L (dv_fl L q)) := by
  refine dv_ofS (by decide +kernel) (dv_cat rfl) q445 List.mem_cons_self hlo ?_
  intro p e s m args below meth c Q cx hnm hK hM hP Ret
  refine dv_aload_n (pc := 0) cx dJ5_keys_0 rfl rfl rfl ?_
  refine dv_iconst (pc := 1) (v := 0) cx dJ5_keys_1 (by decide) ?_
  refine dv_cV (C := RJ5) (rest := []) (av := [.int 0]) cx hK (mt_t_getEnum l g t ta q L w hn h0) q448 q450 qs4 q12 q451 (n9 := 1) ⟨by decide, by decide, by decide +kernel⟩ rfl (hP.1.rc hK rfl) ⟨⟨[], dv_fr.rf⟩, dv_m0, hP, Nat.le_refl _, Nat.le_refl _⟩ ⟨⟨Nat.le_of_ble_eq_true rfl, Nat.le_of_ble_eq_true rfl⟩, Nat.le_of_ble_eq_true rfl⟩ rfl rfl dJ5_keys_2 (fun v h1 hS hf => ?_)
  obtain ⟨en, rfl, hE⟩ := hS
  exact Ret _ _ _ _ _ _ _ (Nat.le_refl _) (Nat.le_refl _) ⟨en, rfl, hE⟩ hf (dv_roa dJ5_keys_5)
/-- hasMoreElements() -/
theorem mt_en_has (l : Launch) (g : dv_P) (en t ta q : Nat) (L : Nat → List dv_E) (w : Int32) (rem : List dv_E) : dv_M l yJ15_hasMoreElements (ws_ yJ15_hasMoreElements cJ15_hasMoreElements 4 (some .boolean)) 0 0 0 0 g [.ref en] [] (fun h => dv_tr g h t ta q L w ∧ dv_Em g h en ta q L rem) (dv_kk g [4]) (fun v _ h1 => v = some (.int (if rem = [] then 0 else 1)) ∧ dv_Em g h1 en ta q L rem) := by
  refine dv_of (by decide +kernel) (dv_cat rfl) ?_
  intro p e s m args below meth c Q cx hnm hK hM hP Ret
  have ap := hK.ap
  obtain ⟨hv, i, rs, f3, f5, f6, f7, hi, ho, hrs, hrem, hlo⟩ := hP
  have hq := hv.q
  have ki : dv_k g 4 ∈ dv_kk g [4] := dv_kin (by decide)
  have n3 := dv_nin ap 3 (js := [4]) (by decide)
  have n5 := dv_nin ap 5 (js := [4]) (by decide)
  have out : ∀ (i : Nat) (rs : List dv_E), i ≤ q → dv_ch g (dv_ct s.heap) rs → rem = rs ++ dv_fl L i → (rs = [] → rem = []) →
      dv_V (dv_lo g) p l e (dv_rm 0 0 0 0) s m args below meth c (dv_ct s.heap) 0 0 Q (dv_G none 0 m 33 [.val (.ref en), .val (va_rf (dv_hd rs)), .val (.int (nI i)), .val (.ref ta)] []) := by
    intro i rs hi hrs hrem hnil
    refine dv_aload_n (pc := 33) cx dJ15_hasMoreElements_33 rfl rfl rfl ?_
    refine dv_aload_n (pc := 34) (v := va_rf (dv_hd rs)) cx dJ15_hasMoreElements_34 rfl rfl (dv_rfR _) ?_
    refine pf_465 cx hK ho hlo (dv_rfe _).1.1 (dv_rfe _).1.2 dJ15_hasMoreElements_35 (fun h1 ho1 hs1 => ?_)
    have g1 := ho.st hs1 ki hlo
    refine dv_aload_n (pc := 38) cx dJ15_hasMoreElements_38 rfl rfl rfl ?_
    refine dv_iload_n (pc := 39) cx dJ15_hasMoreElements_39 rfl rfl ?_
    refine pf_464 cx hK ho1 hlo rfl rfl dJ15_hasMoreElements_40 (fun h2 ho2 hs2 => ?_)
    have g2 := g1.trans (ho1.st hs2 ki hlo)
    have hE : dv_Em g h2 en ta q L rem := ⟨i, rs, _, _, _, _, hi, ho2, hrs.fr g2 n5 n3, hrem, hlo⟩
    cases rs with
    | nil =>
      refine dv_aload_n (pc := 43) (v := .null) cx dJ15_hasMoreElements_43 rfl rfl rfl ?_
      refine dv_ifnullN (tgt := 51) cx dJ15_hasMoreElements_44 (by decide) ?_
      refine dv_iconst (pc := 51) (v := 0) cx dJ15_hasMoreElements_51 (by decide) ?_
      exact Ret _ _ _ _ _ _ _ (Nat.le_refl _) (Nat.le_refl _) ⟨by rw [if_pos (hnil rfl)], hE⟩ g2 (dv_roz (Or.inl rfl) dJ15_hasMoreElements_52)
    | cons x r =>
      refine dv_aload_n (pc := 43) (v := .ref x.1) cx dJ15_hasMoreElements_43 rfl rfl rfl ?_
      refine dv_ifnull cx dJ15_hasMoreElements_44 ?_
      refine dv_iconst (pc := 47) (v := 1) cx dJ15_hasMoreElements_47 (by decide) ?_
      refine dv_goto (pc := 48) (tgt := 52) cx dJ15_hasMoreElements_48 (by decide) ?_
      exact Ret _ _ _ _ _ _ _ (Nat.le_refl _) (Nat.le_refl _) ⟨by rw [if_neg (by rw [hrem]; exact List.cons_ne_nil _ _)], hE⟩ g2 (dv_roz (Or.inr rfl) dJ15_hasMoreElements_52)
  have loop : ∀ (i : Nat) (rs : List dv_E), i ≤ q → dv_ch g (dv_ct s.heap) rs → rem = rs ++ dv_fl L i →
      dv_V (dv_lo g) p l e (dv_rm 0 0 0 0) s m args below meth c (dv_ct s.heap) 0 0 Q (dv_G none 0 m 15 [.val (.ref en), .val (va_rf (dv_hd rs)), .val (.int (nI i)), .val (.ref ta)] []) := by
    intro i
    induction i with
    | zero =>
      intro rs hi hrs hrem
      cases rs with
      | nil =>
        refine dv_aload_n (pc := 15) (v := .null) cx dJ15_hasMoreElements_15 rfl rfl rfl ?_
        refine dv_ifnonnullN cx dJ15_hasMoreElements_16 ?_
        refine dv_iload_n (pc := 19) cx dJ15_hasMoreElements_19 rfl rfl ?_
        refine dv_if_le (tgt := 33) cx dJ15_hasMoreElements_20 (by decide) (fun _ => ?_) (fun z => absurd (by decide) z)
        exact out 0 [] hi hrs hrem (fun _ => hrem)
      | cons x r =>
        refine dv_aload_n (pc := 15) (v := .ref x.1) cx dJ15_hasMoreElements_15 rfl rfl rfl ?_
        refine dv_ifnonnull (tgt := 33) cx dJ15_hasMoreElements_16 (by decide) ?_
        exact out 0 (x :: r) hi hrs hrem (fun z => by cases z)
    | succ i ih =>
      intro rs hi hrs hrem
      cases rs with
      | nil =>
        refine dv_aload_n (pc := 15) (v := .null) cx dJ15_hasMoreElements_15 rfl rfl rfl ?_
        refine dv_ifnonnullN cx dJ15_hasMoreElements_16 ?_
        refine dv_iload_n (pc := 19) cx dJ15_hasMoreElements_19 rfl rfl ?_
        refine dv_if_le (tgt := 33) cx dJ15_hasMoreElements_20 (by decide) (fun z => absurd z (nI_nle (by omega) (by omega))) (fun _ => ?_)
        refine dv_aload_n (pc := 23) cx dJ15_hasMoreElements_23 rfl rfl rfl ?_
        refine dv_iinc (v := nI i) cx dJ15_hasMoreElements_24 rfl (by rw [dv_m1, nI_pred]) ?_
        refine dv_iload_n (pc := 27) cx dJ15_hasMoreElements_27 rfl rfl ?_
        refine dv_aald (i := i) (v := va_rf (dv_hd (L i))) cx hK 1 rfl hv.2.1 rfl (by omega) (by omega) rfl dJ15_hasMoreElements_28 ?_
        refine dv_astore_n (pc := 29) cx dJ15_hasMoreElements_29 rfl rfl (dv_rfR _) (dv_rfC _) ?_
        refine dv_goto (pc := 30) (tgt := 15) cx dJ15_hasMoreElements_30 (by decide) ?_
        exact ih (L i) (by omega) (hv.2.2.2.2.2.1 i (by omega)) hrem
      | cons x r =>
        refine dv_aload_n (pc := 15) (v := .ref x.1) cx dJ15_hasMoreElements_15 rfl rfl rfl ?_
        refine dv_ifnonnull (tgt := 33) cx dJ15_hasMoreElements_16 (by decide) ?_
        exact out (i + 1) (x :: r) hi hrs hrem (fun z => by cases z)
  refine dv_aload_n (pc := 0) cx dJ15_hasMoreElements_0 rfl rfl rfl ?_
  refine gf_465 cx hK ho dJ15_hasMoreElements_1 ?_
  refine dv_astore_n (pc := 4) cx dJ15_hasMoreElements_4 rfl rfl (dv_rfR _) (dv_rfC _) ?_
  refine dv_aload_n (pc := 5) cx dJ15_hasMoreElements_5 rfl rfl rfl ?_
  refine gf_464 cx hK ho dJ15_hasMoreElements_6 ?_
  refine dv_istore_n (pc := 9) cx dJ15_hasMoreElements_9 rfl rfl ?_
  refine dv_aload_n (pc := 10) cx dJ15_hasMoreElements_10 rfl rfl rfl ?_
  refine gf_463 cx hK ho dJ15_hasMoreElements_11 ?_
  refine dv_astore_n (pc := 14) cx dJ15_hasMoreElements_14 rfl rfl rfl rfl ?_
  exact loop i rs hi hrs hrem
/-- nextElement(): the key's box -/
theorem mt_en_next (l : Launch) (g : dv_P) (en t ta q : Nat) (L : Nat → List dv_E) (w : Int32) (y : dv_E) (rem : List dv_E) : dv_M l yJ15_nextElement (ws_ yJ15_nextElement cJ15_nextElement 5 (some (.object "java/lang/Object"))) 0 0 0 0 g [.ref en] [] (fun h => dv_tr g h t ta q L w ∧ dv_Em g h en ta q L (y :: rem)) (dv_kk g [4]) (fun v h h1 => v = some (.ref y.2.1) ∧ dv_in g h y.2.1 y.2.2.1 ∧ dv_Em g h1 en ta q L rem) := by
  refine dv_of (by decide +kernel) (dv_cat rfl) ?_
  intro p e s m args below meth c Q cx hnm hK hM hP Ret
  have ap := hK.ap
  obtain ⟨hv, i, rs, f3, f5, f6, f7, hi, ho, hrs, hrem, hlo⟩ := hP
  have hq := hv.q
  have ki : dv_k g 4 ∈ dv_kk g [4] := dv_kin (by decide)
  have n3 := dv_nin ap 3 (js := [4]) (by decide)
  have n5 := dv_nin ap 5 (js := [4]) (by decide)
  have out : ∀ (i : Nat) (r : List dv_E), i ≤ q → dv_ch g (dv_ct s.heap) (y :: r) → rem = r ++ dv_fl L i →
      dv_V (dv_lo g) p l e (dv_rm 0 0 0 0) s m args below meth c (dv_ct s.heap) 0 0 Q (dv_G none 0 m 33 [.val (.ref en), .val (.ref y.1), .val (.int (nI i)), .val (.ref ta), .unset] []) := by
    intro i r hi hrs hrem
    refine dv_aload_n (pc := 33) cx dJ15_nextElement_33 rfl rfl rfl ?_
    refine dv_aload_n (pc := 34) cx dJ15_nextElement_34 rfl rfl rfl ?_
    refine pf_465 cx hK ho hlo (dv_rfe (some _)).1.1 (dv_rfe (some _)).1.2 dJ15_nextElement_35 (fun h1 ho1 hs1 => ?_)
    have g1 := ho.st hs1 ki hlo
    refine dv_aload_n (pc := 38) cx dJ15_nextElement_38 rfl rfl rfl ?_
    refine dv_iload_n (pc := 39) cx dJ15_nextElement_39 rfl rfl ?_
    refine pf_464 cx hK ho1 hlo rfl rfl dJ15_nextElement_40 (fun h2 ho2 hs2 => ?_)
    have g2 := g1.trans (ho1.st hs2 ki hlo)
    refine dv_aload_n (pc := 43) cx dJ15_nextElement_43 rfl rfl rfl ?_
    refine dv_ifnull cx dJ15_nextElement_44 ?_
    refine dv_aload_n (pc := 47) cx dJ15_nextElement_47 rfl rfl rfl ?_
    refine dv_aload_n (pc := 48) cx dJ15_nextElement_48 rfl rfl rfl ?_
    refine gf_465 cx hK ho2 dJ15_nextElement_49 ?_
    refine dv_dup_x1 (pc := 52) cx dJ15_nextElement_52 rfl rfl ?_
    refine pf_466 cx hK ho2 hlo (dv_rfe (some _)).2.1 (dv_rfe (some _)).2.2 dJ15_nextElement_53 (fun h3 ho3 hs3 => ?_)
    have g3 := g2.trans (ho2.st hs3 ki hlo)
    have hye := hrs.1.1.fr g3 n3
    refine dv_astore (pc := 56) cx dJ15_nextElement_56 rfl rfl rfl ?_
    refine dv_aload_n (pc := 58) cx dJ15_nextElement_58 rfl rfl rfl ?_
    refine dv_aload (pc := 59) cx dJ15_nextElement_59 rfl rfl ?_
    refine gf_385 cx hK hye dJ15_nextElement_61 ?_
    refine pf_465 cx hK ho3 hlo (dv_rfe _).1.1 (dv_rfe _).1.2 dJ15_nextElement_64 (fun h4 ho4 hs4 => ?_)
    have g4 := g3.trans (ho3.st hs4 ki hlo)
    refine dv_aload_n (pc := 67) cx dJ15_nextElement_67 rfl rfl rfl ?_
    refine gf_467 cx hK ho4 dJ15_nextElement_68 ?_
    refine dv_if_ne (tgt := 82) cx dJ15_nextElement_71 (by decide) (fun z => absurd rfl z) (fun _ => ?_)
    refine dv_aload (pc := 74) cx dJ15_nextElement_74 rfl rfl ?_
    refine gf_379 cx hK (hrs.1.1.fr g4 n3) dJ15_nextElement_76 ?_
    refine dv_goto (pc := 79) (tgt := 100) cx dJ15_nextElement_79 (by decide) ?_
    exact Ret _ _ _ _ _ _ _ (Nat.le_refl _) (Nat.le_refl _) ⟨rfl, hrs.1.2.1, i, r, _, _, _, _, hi, ho4, hrs.2.fr g4 n5 n3, hrem, hlo⟩ g4 (dv_roa dJ15_nextElement_100)
  have loop : ∀ (i : Nat) (rs : List dv_E), i ≤ q → dv_ch g (dv_ct s.heap) rs → y :: rem = rs ++ dv_fl L i →
      dv_V (dv_lo g) p l e (dv_rm 0 0 0 0) s m args below meth c (dv_ct s.heap) 0 0 Q (dv_G none 0 m 15 [.val (.ref en), .val (va_rf (dv_hd rs)), .val (.int (nI i)), .val (.ref ta), .unset] []) := by
    intro i
    induction i with
    | zero =>
      intro rs hi hrs hrem
      cases rs with
      | nil => cases hrem
      | cons x r =>
        cases hrem
        refine dv_aload_n (pc := 15) (v := .ref y.1) cx dJ15_nextElement_15 rfl rfl rfl ?_
        refine dv_ifnonnull (tgt := 33) cx dJ15_nextElement_16 (by decide) ?_
        exact out 0 r hi hrs rfl
    | succ i ih =>
      intro rs hi hrs hrem
      cases rs with
      | nil =>
        refine dv_aload_n (pc := 15) (v := .null) cx dJ15_nextElement_15 rfl rfl rfl ?_
        refine dv_ifnonnullN cx dJ15_nextElement_16 ?_
        refine dv_iload_n (pc := 19) cx dJ15_nextElement_19 rfl rfl ?_
        refine dv_if_le (tgt := 33) cx dJ15_nextElement_20 (by decide) (fun z => absurd z (nI_nle (by omega) (by omega))) (fun _ => ?_)
        refine dv_aload_n (pc := 23) cx dJ15_nextElement_23 rfl rfl rfl ?_
        refine dv_iinc (v := nI i) cx dJ15_nextElement_24 rfl (by rw [dv_m1, nI_pred]) ?_
        refine dv_iload_n (pc := 27) cx dJ15_nextElement_27 rfl rfl ?_
        refine dv_aald (i := i) (v := va_rf (dv_hd (L i))) cx hK 1 rfl hv.2.1 rfl (by omega) (by omega) rfl dJ15_nextElement_28 ?_
        refine dv_astore_n (pc := 29) cx dJ15_nextElement_29 rfl rfl (dv_rfR _) (dv_rfC _) ?_
        refine dv_goto (pc := 30) (tgt := 15) cx dJ15_nextElement_30 (by decide) ?_
        exact ih (L i) (by omega) (hv.2.2.2.2.2.1 i (by omega)) hrem
      | cons x r =>
        obtain ⟨rfl, hr⟩ := List.cons.inj hrem
        refine dv_aload_n (pc := 15) (v := .ref y.1) cx dJ15_nextElement_15 rfl rfl rfl ?_
        refine dv_ifnonnull (tgt := 33) cx dJ15_nextElement_16 (by decide) ?_
        exact out (i + 1) r hi hrs hr
  refine dv_aload_n (pc := 0) cx dJ15_nextElement_0 rfl rfl rfl ?_
  refine gf_465 cx hK ho dJ15_nextElement_1 ?_
  refine dv_astore_n (pc := 4) cx dJ15_nextElement_4 rfl rfl (dv_rfR _) (dv_rfC _) ?_
  refine dv_aload_n (pc := 5) cx dJ15_nextElement_5 rfl rfl rfl ?_
  refine gf_464 cx hK ho dJ15_nextElement_6 ?_
  refine dv_istore_n (pc := 9) cx dJ15_nextElement_9 rfl rfl ?_
  refine dv_aload_n (pc := 10) cx dJ15_nextElement_10 rfl rfl rfl ?_
  refine gf_463 cx hK ho dJ15_nextElement_11 ?_
  refine dv_astore_n (pc := 14) cx dJ15_nextElement_14 rfl rfl rfl rfl ?_
  exact loop i rs hi hrs hrem
end
section
/-! ===== LegacyDrill: its methods ===== -/
set_option maxRecDepth 100000
theorem dv_castB {g : dv_P} {p : Program} {l : Launch} {e : Env} {R : Room} {s : State} {m : MethodId} {args : Array Value} {below : List Frame} {meth : Method} {c : Code} {h : dv_H} {k n : Nat} {Q : State → Prop} {lk : Option Addr} {mr : Nat} {pc nL : Nat} {ls : List Slot} {st : List Value} {cc : ByteArray}
    (cx : CallFix p m c cc nL s args lw_all "LegacyDrill") (hK : dv_K g s) {a : Nat} {x : Int32} (hi : dv_in g h a x) (hd : decode cc pc = .ok (.checkcast 24, 3))
    (kk : dv_V (dv_lo g) p l e R s m args below meth c h k n Q (dv_G lk mr m (pc + 3) ls (.ref a :: st))) : dv_V (dv_lo g) p l e R s m args below meth c h k n Q (dv_G lk mr m pc ls (.ref a :: st)) := by
  obtain ⟨y, b1, b2, b3, -⟩ := hi
  exact dv_castI cx hK q211 b1 b3 b2 hd kk
/-- LegacyDrill() -/
theorem mt_x_init (l : Launch) (g : dv_P) (d : Nat) (hlo : dv_lo g ≤ d) : dv_M l yX0_init (ws_ yX0_init cX0_init 1 none) 7 196 4 33 g [.ref d] [] (fun h => dv_ob g h d 0 2 [.null, .null]) (dv_kk g [0, 1, 2, 10]) (fun v h h1 => v = none ∧ ∃ pa tb, h pa = none ∧ h tb = none ∧ dv_lo g ≤ pa ∧ dv_lo g ≤ tb ∧ dv_ob g h1 d 0 2 [.ref pa, .ref tb] ∧ dv_Ve g h1 pa [] ∧ dv_Ta g h1 tb []) := by
  refine dv_of (by decide +kernel) (dv_cat rfl) ?_
  intro p e s m args below meth c Q cx hnm hK hM hP Ret
  have ap := hK.ap
  have kz : dv_k g 0 ∈ dv_kk g [0, 1, 2, 10] := dv_kin (by decide)
  refine dv_aload_n (pc := 0) cx dX0_init_0 rfl rfl rfl ?_
  refine dv_objInit cx q30 q31 q32 rfl (by decide) (Nat.le_of_ble_eq_true rfl) dX0_init_1 ?_
  refine dv_aload_n (pc := 4) cx dX0_init_4 rfl rfl rfl ?_
  refine dv_new (ci := 1) (fs := dv_v0) (C := RJ3) (T := TJ3) (N := 4) cx hK in_J3 rfl tyJ3 tyJ3_ok q33 q34 q10 (fun j hj => by rcases (show j = 0 ∨ j = 1 ∨ j = 2 ∨ j = 3 by omega) with rfl | rfl | rfl | rfl <;> rfl) (by decide) (by decide) dX0_init_5 (fun pa h1 hw1 hlo1 _ ho1 => ?_)
  have f1 : dv_fr (dv_lo g) (dv_kk g [0, 1, 2, 10]) (dv_ct s.heap) h1 := hw1.fr
  refine dv_dup (pc := 8) cx dX0_init_8 rfl ?_
  refine dv_cI (rest := [.ref pa, .ref d]) (av := []) cx hK (mt_st_init l g pa hlo1) q35 q36 q10 q37 rfl (n9 := 0) ⟨by decide, by decide, by decide +kernel⟩ rfl ⟨⟨_, f1⟩, dv_m0, ho1, (by decide), (by decide)⟩ ⟨⟨Nat.le_of_ble_eq_true rfl, Nat.le_of_ble_eq_true rfl⟩, Nat.le_of_ble_eq_true rfl⟩ rfl rfl dX0_init_9 (fun v h2 hS hf2 => ?_)
  obtain ⟨rfl, hV, -⟩ := hS
  have f2 := f1.trans (hf2.mono (ks' := dv_kk g [0, 1, 2, 10]) (fun k hk => by
    rcases List.mem_cons.mp hk with z | z
    · rw [z]; exact dv_kin (i := 1) (by decide)
    · rw [List.mem_singleton.mp z]; exact dv_kin (i := 10) (by decide)))
  have hd2 : dv_ob g h2 d 0 2 [.null, .null] := (hP.fr (hw1.fr (lo := dv_lo g) (ks := [])) List.not_mem_nil).fr hf2 (dv_nin ap 0 (by decide))
  refine pf_122 cx hK hd2 hlo hnm rfl rfl dX0_init_12 (fun h3 ho3 hs3 => ?_)
  have g3 := hd2.st hs3 (ks := dv_kk g [0]) (dv_kin (by decide)) hlo
  have f3 := f2.trans (hd2.st hs3 kz hlo)
  have hV3 := hV.fr ap g3 (by decide)
  refine dv_aload_n (pc := 15) cx dX0_init_15 rfl rfl rfl ?_
  refine dv_new (ci := 2) (fs := dv_t0) (C := RJ5) (T := TJ5) (N := 8) cx hK in_J5 rfl tyJ5 tyJ5_ok q71 q72 q12 (fun j hj => by rcases (show j = 0 ∨ j = 1 ∨ j = 2 ∨ j = 3 ∨ j = 4 ∨ j = 5 ∨ j = 6 ∨ j = 7 by omega) with rfl | rfl | rfl | rfl | rfl | rfl | rfl | rfl <;> rfl) (by decide) (by decide) dX0_init_16 (fun tb h4 hw4 hlo4 _ ho4 => ?_)
  have g4 : dv_fr (dv_lo g) (dv_kk g []) h3 h4 := hw4.fr
  have f4 : dv_fr (dv_lo g) (dv_kk g [0, 1, 2, 10]) (dv_ct s.heap) h4 := f3.trans hw4.fr
  refine dv_dup (pc := 19) cx dX0_init_19 rfl ?_
  refine dv_cI (rest := [.ref tb, .ref d]) (av := []) cx hK (mt_t_init l g tb hlo4) q73 q74 q12 q75 rfl (n9 := 0) ⟨by decide, by decide, by decide +kernel⟩ rfl ⟨⟨_, f4⟩, dv_m0, ho4, (by decide), (by decide)⟩ ⟨⟨Nat.le_of_ble_eq_true rfl, Nat.le_of_ble_eq_true rfl⟩, Nat.le_of_ble_eq_true rfl⟩ rfl rfl dX0_init_20 (fun v h5 hS hf5 => ?_)
  obtain ⟨rfl, hT⟩ := hS
  have f5 := f4.trans (hf5.mono (ks' := dv_kk g [0, 1, 2, 10]) (fun k hk => by rw [List.mem_singleton.mp hk]; exact dv_kin (i := 2) (by decide)))
  have hd5 := (ho3.fr g4 List.not_mem_nil).fr hf5 (dv_nin ap 0 (by decide))
  have hV5 := (hV3.fr ap g4 (by decide)).fr ap hf5 (by decide)
  refine pf_123 cx hK hd5 hlo hnm rfl rfl dX0_init_23 (fun h6 ho6 hs6 => ?_)
  have g6 := hd5.st hs6 (ks := dv_kk g [0]) (dv_kin (by decide)) hlo
  have f6 := f5.trans (hd5.st hs6 kz hlo)
  have tn : dv_ct s.heap tb = none := by
    cases hz : dv_ct s.heap tb with
    | none => rfl
    | some z =>
      obtain ⟨z', e1, -⟩ := f3 tb z hz
      rw [hw4.1] at e1; cases e1
  exact Ret _ _ _ _ _ _ _ (by decide) (by decide) ⟨rfl, pa, tb, hw1.1, tn, hlo1, hlo4, ho6, hV5.fr ap g6 (by decide), hT.fr ap g6 (by decide)⟩ f6 (dv_rov dX0_init_26)
abbrev dv_Px (g : dv_P) (d pa tb : Nat) (xs : List Int32) (h : dv_H) : Prop := dv_ob g h d 0 2 [.ref pa, .ref tb] ∧ dv_Ve g h pa xs
abbrev dv_Pt (g : dv_P) (d pa tb : Nat) (kv : List (Int32 × Int32)) (h : dv_H) : Prop := dv_ob g h d 0 2 [.ref pa, .ref tb] ∧ dv_Ta g h tb kv
theorem dv_Ve.rc {g : dv_P} {s : State} {h : dv_H} {a : Nat} {xs : List Int32} (v : dv_Ve g h a xs) (hK : dv_K g s) : dv_rc s h a RJ3 := by
  obtain ⟨ea, q, f, w, hv, -⟩ := v
  exact hv.1.rc hK rfl
theorem dv_Ta.rc {g : dv_P} {s : State} {h : dv_H} {a : Nat} {kv : List (Int32 × Int32)} (v : dv_Ta g h a kv) (hK : dv_K g s) : dv_rc s h a RJ5 := by
  obtain ⟨ea, q, f, w, hv, -⟩ := v
  exact hv.1.rc hK rfl
/-- push(x) -/
theorem mt_x_push (l : Launch) (g : dv_P) (d pa tb : Nat) (xs : List Int32) (x : Int32) (hn : xs.length ≤ 1700) (hlo : dv_lo g ≤ pa) : dv_M l yX0_push (ws_ yX0_push cX0_push 2 (some .int)) 8 224 2 2561 g [.ref d, .int x] [pa] (dv_Px g d pa tb xs) (dv_kk g [1, 10]) (fun v _ h1 => v = some (.int x) ∧ dv_Ve g h1 pa (xs ++ [x])) := by
  refine dv_of (by decide +kernel) (dv_cat rfl) ?_
  intro p e s m args below meth c Q cx hnm hK hM hP Ret
  have ap := hK.ap
  refine dv_aload_n (pc := 0) cx dX0_push_0 rfl rfl rfl ?_
  refine gf_122 cx hK hP.1 dX0_push_1 ?_
  refine dv_iload_n (pc := 4) cx dX0_push_4 rfl rfl ?_
  refine dv_cS (rest := [.ref pa]) (avs := [.int x]) cx hK (mt_valueOf l g x) q133 q134 q16 q135 (n9 := 1) ⟨by decide, by decide, by decide +kernel⟩ rfl ⟨⟨[], dv_fr.rf⟩, dv_m0, trivial, (by decide), (by decide)⟩ ⟨⟨Nat.le_of_ble_eq_true rfl, Nat.le_of_ble_eq_true rfl⟩, Nat.le_of_ble_eq_true rfl⟩ rfl rfl dX0_push_5 (fun v h1 hS hf => ?_)
  obtain ⟨b, rfl, hb⟩ := hS
  have hV := hP.2.fr (js := []) ap hf (by decide)
  refine dv_cV (C := RJ3) (rest := []) (av := [.ref b]) cx hK (mt_s_push l g pa b xs x hn hlo) q153 q154 q155 q10 q156 (n9 := 1) ⟨by decide, by decide, by decide +kernel⟩ rfl (hV.rc hK) ⟨⟨_, hf⟩, dv_mI hM, ⟨hV, hb⟩, (by decide), (by decide)⟩ ⟨⟨Nat.le_of_ble_eq_true rfl, Nat.le_of_ble_eq_true rfl⟩, Nat.le_of_ble_eq_true rfl⟩ rfl rfl dX0_push_8 (fun v h2 hS hf2 => ?_)
  obtain ⟨rfl, hV2⟩ := hS
  have hb2 := hb.fr hf2 (dv_nin ap 5 (by decide))
  refine dv_castB cx hK hb2 dX0_push_11 ?_
  refine dv_cV (C := RJ9) (rest := []) (av := []) cx hK (mt_intValue l g b x) q212 q213 q214 q16 q215 (n9 := 0) ⟨by decide, by decide, by decide +kernel⟩ rfl (hb2.rc hK) ⟨⟨_, hf.nil.trans hf2⟩, dv_m0, hb2, (by decide), (by decide)⟩ ⟨⟨Nat.le_of_ble_eq_true rfl, Nat.le_of_ble_eq_true rfl⟩, Nat.le_of_ble_eq_true rfl⟩ rfl rfl dX0_push_14 (fun v h3 hS hf3 => ?_)
  obtain ⟨rfl, rfl⟩ := hS
  exact Ret _ _ _ _ _ _ _ (by decide) (by decide) ⟨rfl, hV2⟩ (hf.nil.trans hf2) (dv_roi dX0_push_17)
/-- pop() -/
theorem mt_x_pop (l : Launch) (g : dv_P) (d pa tb : Nat) (xs : List Int32) (x : Int32) (hn : xs.length ≤ 1700) (h0 : 0 < xs.length) (hx : xs[xs.length - 1]? = some x) (hlo : dv_lo g ≤ pa) : dv_M l yX0_pop (ws_ yX0_pop cX0_pop 1 (some .int)) 4 112 0 0 g [.ref d] [pa] (dv_Px g d pa tb xs) (dv_kk g [1, 10]) (fun v _ h1 => v = some (.int x) ∧ dv_Ve g h1 pa (xs.eraseIdx (xs.length - 1))) := by
  refine dv_of (by decide +kernel) (dv_cat rfl) ?_
  intro p e s m args below meth c Q cx hnm hK hM hP Ret
  refine dv_aload_n (pc := 0) cx dX0_pop_0 rfl rfl rfl ?_
  refine gf_122 cx hK hP.1 dX0_pop_1 ?_
  refine dv_cVS (C := RJ3) (rest := []) (av := []) cx hK (mt_s_pop l g pa xs x hn h0 hx hlo) q220 q221 q222 q10 q223 (n9 := 0) ⟨by decide, by decide, by decide +kernel⟩ rfl (hP.2.rc hK) ⟨⟨[], dv_fr.rf⟩, dv_mI hM, hP.2, (by decide), (by decide)⟩ ⟨⟨Nat.le_of_ble_eq_true rfl, Nat.le_of_ble_eq_true rfl⟩, Nat.le_of_ble_eq_true rfl⟩ rfl rfl dX0_pop_4 (fun v h2 hS hf2 => ?_)
  obtain ⟨b, rfl, hb2, hV2⟩ := hS
  refine dv_castB cx hK hb2 dX0_pop_7 ?_
  refine dv_cV (C := RJ9) (rest := []) (av := []) cx hK (mt_intValue l g b x) q212 q213 q214 q16 q215 (n9 := 0) ⟨by decide, by decide, by decide +kernel⟩ rfl (hb2.rc hK) ⟨⟨_, hf2⟩, dv_m0, hb2, (by decide), (by decide)⟩ ⟨⟨Nat.le_of_ble_eq_true rfl, Nat.le_of_ble_eq_true rfl⟩, Nat.le_of_ble_eq_true rfl⟩ rfl rfl dX0_pop_10 (fun v h3 hS hf3 => ?_)
  obtain ⟨rfl, rfl⟩ := hS
  exact Ret _ _ _ _ _ _ _ (by decide) (by decide) ⟨rfl, hV2⟩ hf2 (dv_roi dX0_pop_13)
/-- peek() -/
theorem mt_x_peek (l : Launch) (g : dv_P) (d pa tb : Nat) (xs : List Int32) (x : Int32) (hn : xs.length ≤ 1700) (h0 : 0 < xs.length) (hx : xs[xs.length - 1]? = some x) (hlo : dv_lo g ≤ pa) : dv_M l yX0_peek (ws_ yX0_peek cX0_peek 1 (some .int)) 3 84 0 0 g [.ref d] [pa] (dv_Px g d pa tb xs) [] (fun v h h1 => v = some (.int x) ∧ h1 = h) := by
  refine dv_of (by decide +kernel) (dv_cat rfl) ?_
  intro p e s m args below meth c Q cx hnm hK hM hP Ret
  refine dv_aload_n (pc := 0) cx dX0_peek_0 rfl rfl rfl ?_
  refine gf_122 cx hK hP.1 dX0_peek_1 ?_
  refine dv_cVS (C := RJ3) (rest := []) (av := []) cx hK (mt_s_peek l g pa xs x hn h0 hx hlo) q256 q231 q232 q10 q233 (n9 := 0) ⟨by decide, by decide, by decide +kernel⟩ rfl (hP.2.rc hK) ⟨⟨[], dv_fr.rf⟩, dv_mI hM, hP.2, (by decide), (by decide)⟩ ⟨⟨Nat.le_of_ble_eq_true rfl, Nat.le_of_ble_eq_true rfl⟩, Nat.le_of_ble_eq_true rfl⟩ rfl rfl dX0_peek_4 (fun v h2 hS hf2 => ?_)
  obtain ⟨b, rfl, rfl, hb2⟩ := hS
  refine dv_castB cx hK hb2 dX0_peek_7 ?_
  refine dv_cV (C := RJ9) (rest := []) (av := []) cx hK (mt_intValue l g b x) q212 q213 q214 q16 q215 (n9 := 0) ⟨by decide, by decide, by decide +kernel⟩ rfl (hb2.rc hK) ⟨⟨_, hf2⟩, dv_m0, hb2, (by decide), (by decide)⟩ ⟨⟨Nat.le_of_ble_eq_true rfl, Nat.le_of_ble_eq_true rfl⟩, Nat.le_of_ble_eq_true rfl⟩ rfl rfl dX0_peek_10 (fun v h3 hS hf3 => ?_)
  obtain ⟨rfl, rfl⟩ := hS
  exact Ret _ _ _ _ _ _ _ (by decide) (by decide) ⟨rfl, rfl⟩ hf2 (dv_roi dX0_peek_13)
/-- empty() -/
theorem mt_x_empty (l : Launch) (g : dv_P) (d pa tb : Nat) (xs : List Int32) (hn : xs.length ≤ 1700) (hlo : dv_lo g ≤ pa) : dv_M l yX0_empty (ws_ yX0_empty cX0_empty 1 (some .boolean)) 2 56 0 0 g [.ref d] [pa] (dv_Px g d pa tb xs) [] (fun v h h1 => v = some (.int (if xs.length = 0 then 1 else 0)) ∧ h1 = h) := by
  refine dv_of (by decide +kernel) (dv_cat rfl) ?_
  intro p e s m args below meth c Q cx hnm hK hM hP Ret
  refine dv_aload_n (pc := 0) cx dX0_empty_0 rfl rfl rfl ?_
  refine gf_122 cx hK hP.1 dX0_empty_1 ?_
  refine dv_cV (C := RJ3) (rest := []) (av := []) cx hK (mt_s_empty l g pa xs hn hlo) q261 q262 q263 q10 q264 (n9 := 0) ⟨by decide, by decide, by decide +kernel⟩ rfl (hP.2.rc hK) ⟨⟨[], dv_fr.rf⟩, dv_mI hM, hP.2, (by decide), (by decide)⟩ ⟨⟨Nat.le_of_ble_eq_true rfl, Nat.le_of_ble_eq_true rfl⟩, Nat.le_of_ble_eq_true rfl⟩ rfl rfl dX0_empty_4 (fun v h2 hS hf2 => ?_)
  obtain ⟨rfl, rfl⟩ := hS
  refine Ret _ _ _ _ _ _ _ (by decide) (by decide) ⟨rfl, rfl⟩ hf2 (dv_roz ?_ dX0_empty_7)
  by_cases z : xs.length = 0
  · exact Or.inr (if_pos z)
  · exact Or.inl (if_neg z)
/-- search(x) -/
theorem mt_x_search (l : Launch) (g : dv_P) (d pa tb : Nat) (xs : List Int32) (x : Int32) (hn : xs.length ≤ 1700) (hlo : dv_lo g ≤ pa) : dv_M l yX0_search (ws_ yX0_search cX0_search 2 (some .int)) 5 140 1 1 g [.ref d, .int x] [pa] (dv_Px g d pa tb xs) [] (fun v _ _ => ∃ k, dv_lst x xs k ∧ v = some (.int (if k = 0 then -1 else nI (xs.length - (k - 1))))) := by
  refine dv_of (by decide +kernel) (dv_cat rfl) ?_
  intro p e s m args below meth c Q cx hnm hK hM hP Ret
  have ap := hK.ap
  refine dv_aload_n (pc := 0) cx dX0_search_0 rfl rfl rfl ?_
  refine gf_122 cx hK hP.1 dX0_search_1 ?_
  refine dv_iload_n (pc := 4) cx dX0_search_4 rfl rfl ?_
  refine dv_cS (rest := [.ref pa]) (avs := [.int x]) cx hK (mt_valueOf l g x) q133 q134 q16 q135 (n9 := 1) ⟨by decide, by decide, by decide +kernel⟩ rfl ⟨⟨[], dv_fr.rf⟩, dv_m0, trivial, (by decide), (by decide)⟩ ⟨⟨Nat.le_of_ble_eq_true rfl, Nat.le_of_ble_eq_true rfl⟩, Nat.le_of_ble_eq_true rfl⟩ rfl rfl dX0_search_5 (fun v h1 hS hf => ?_)
  obtain ⟨b, rfl, hb⟩ := hS
  have hV := hP.2.fr (js := []) ap hf (by decide)
  refine dv_cVS (C := RJ3) (rest := []) (av := [.ref b]) cx hK (mt_s_search l g pa b xs x hn hlo) q269 q270 q271 q10 q272 (n9 := 1) ⟨by decide, by decide, by decide +kernel⟩ rfl (hV.rc hK) ⟨⟨_, hf⟩, dv_mI hM, ⟨hV, hb⟩, (by decide), (by decide)⟩ ⟨⟨Nat.le_of_ble_eq_true rfl, Nat.le_of_ble_eq_true rfl⟩, Nat.le_of_ble_eq_true rfl⟩ rfl rfl dX0_search_8 (fun v h2 hS hf2 => ?_)
  obtain ⟨rfl, k, hk, rfl⟩ := hS
  exact Ret _ _ _ _ _ _ _ (by decide) (by decide) ⟨k, hk, rfl⟩ (hf.trans hf2) (dv_roi dX0_search_11)
/-- insert(x, i) -/
theorem mt_x_insert (l : Launch) (g : dv_P) (d pa tb i : Nat) (xs : List Int32) (x : Int32) (hn : xs.length ≤ 1700) (hi : i ≤ xs.length) (hlo : dv_lo g ≤ pa) : dv_M l yX0_insert (ws_ yX0_insert cX0_insert 3 none) 6 168 2 2561 g [.ref d, .int x, .int (nI i)] [pa] (dv_Px g d pa tb xs) (dv_kk g [1, 10]) (fun v _ h1 => v = none ∧ dv_Ve g h1 pa (xs.insertIdx i x)) := by
  refine dv_of (by decide +kernel) (dv_cat rfl) ?_
  intro p e s m args below meth c Q cx hnm hK hM hP Ret
  have ap := hK.ap
  refine dv_aload_n (pc := 0) cx dX0_insert_0 rfl rfl rfl ?_
  refine gf_122 cx hK hP.1 dX0_insert_1 ?_
  refine dv_iload_n (pc := 4) cx dX0_insert_4 rfl rfl ?_
  refine dv_cS (rest := [.ref pa]) (avs := [.int x]) cx hK (mt_valueOf l g x) q133 q134 q16 q135 (n9 := 1) ⟨by decide, by decide, by decide +kernel⟩ rfl ⟨⟨[], dv_fr.rf⟩, dv_m0, trivial, (by decide), (by decide)⟩ ⟨⟨Nat.le_of_ble_eq_true rfl, Nat.le_of_ble_eq_true rfl⟩, Nat.le_of_ble_eq_true rfl⟩ rfl rfl dX0_insert_5 (fun v h1 hS hf => ?_)
  obtain ⟨b, rfl, hb⟩ := hS
  have hV := hP.2.fr (js := []) ap hf (by decide)
  refine dv_iload_n (pc := 8) cx dX0_insert_8 rfl rfl ?_
  refine dv_cUS (C := RJ3) (x := ⟨"java/util/Stack", "insertElementAt", "(Ljava/lang/Object;I)V"⟩) (rest := []) (av := [.ref b, .int (nI i)]) cx hK (mt_v_insert l g pa b i xs x hn hi hlo) rfl q298 q299 q302 q301 q9 q303 (n9 := 2) ⟨by decide, by decide, by decide +kernel⟩ rfl (hV.rc hK) ⟨⟨_, hf⟩, dv_mI hM, ⟨hV, hb⟩, (by decide), (by decide)⟩ ⟨⟨Nat.le_of_ble_eq_true rfl, Nat.le_of_ble_eq_true rfl⟩, Nat.le_of_ble_eq_true rfl⟩ rfl rfl dX0_insert_9 (fun v h2 hS hf2 => ?_)
  obtain ⟨rfl, hV2⟩ := hS
  exact Ret _ _ _ _ _ _ _ (by decide) (by decide) ⟨rfl, hV2⟩ (hf.nil.trans hf2) (dv_rov dX0_insert_12)
/-- removeAt(i) -/
theorem mt_x_removeAt (l : Launch) (g : dv_P) (d pa tb i : Nat) (xs : List Int32) (hi : i < xs.length) (hlo : dv_lo g ≤ pa) : dv_M l yX0_removeAt (ws_ yX0_removeAt cX0_removeAt 2 none) 2 56 0 0 g [.ref d, .int (nI i)] [pa] (dv_Px g d pa tb xs) (dv_kk g [1, 10]) (fun v _ h1 => v = none ∧ dv_Ve g h1 pa (xs.eraseIdx i)) := by
  refine dv_of (by decide +kernel) (dv_cat rfl) ?_
  intro p e s m args below meth c Q cx hnm hK hM hP Ret
  refine dv_aload_n (pc := 0) cx dX0_removeAt_0 rfl rfl rfl ?_
  refine gf_122 cx hK hP.1 dX0_removeAt_1 ?_
  refine dv_iload_n (pc := 4) cx dX0_removeAt_4 rfl rfl ?_
  refine dv_cUS (C := RJ3) (x := ⟨"java/util/Stack", "removeElementAt", "(I)V"⟩) (rest := []) (av := [.int (nI i)]) cx hK (mt_v_removeAt l g pa i xs hi hlo) rfl q308 q246 q249 q248 q9 q250 (n9 := 1) ⟨by decide, by decide, by decide +kernel⟩ rfl (hP.2.rc hK) ⟨⟨[], dv_fr.rf⟩, dv_mI hM, hP.2, (by decide), (by decide)⟩ ⟨⟨Nat.le_of_ble_eq_true rfl, Nat.le_of_ble_eq_true rfl⟩, Nat.le_of_ble_eq_true rfl⟩ rfl rfl dX0_removeAt_5 (fun v h2 hS hf2 => ?_)
  obtain ⟨rfl, hV2⟩ := hS
  exact Ret _ _ _ _ _ _ _ (by decide) (by decide) ⟨rfl, hV2⟩ hf2 (dv_rov dX0_removeAt_8)
/-- remove(x) -/
theorem mt_x_remove (l : Launch) (g : dv_P) (d pa tb : Nat) (xs : List Int32) (x : Int32) (hlo : dv_lo g ≤ pa) : dv_M l yX0_remove (ws_ yX0_remove cX0_remove 2 (some .boolean)) 5 140 1 1 g [.ref d, .int x] [pa] (dv_Px g d pa tb xs) (dv_kk g [1, 10]) (fun v _ h1 => ∃ i, dv_fst x xs i ∧ ((i < xs.length ∧ v = some (.int 1) ∧ dv_Ve g h1 pa (xs.eraseIdx i)) ∨ (i = xs.length ∧ v = some (.int 0) ∧ dv_Ve g h1 pa xs))) := by
  refine dv_of (by decide +kernel) (dv_cat rfl) ?_
  intro p e s m args below meth c Q cx hnm hK hM hP Ret
  have ap := hK.ap
  refine dv_aload_n (pc := 0) cx dX0_remove_0 rfl rfl rfl ?_
  refine gf_122 cx hK hP.1 dX0_remove_1 ?_
  refine dv_iload_n (pc := 4) cx dX0_remove_4 rfl rfl ?_
  refine dv_cS (rest := [.ref pa]) (avs := [.int x]) cx hK (mt_valueOf l g x) q133 q134 q16 q135 (n9 := 1) ⟨by decide, by decide, by decide +kernel⟩ rfl ⟨⟨[], dv_fr.rf⟩, dv_m0, trivial, (by decide), (by decide)⟩ ⟨⟨Nat.le_of_ble_eq_true rfl, Nat.le_of_ble_eq_true rfl⟩, Nat.le_of_ble_eq_true rfl⟩ rfl rfl dX0_remove_5 (fun v h1 hS hf => ?_)
  obtain ⟨b, rfl, hb⟩ := hS
  have hV := hP.2.fr (js := []) ap hf (by decide)
  refine dv_cUS (C := RJ3) (x := ⟨"java/util/Stack", "removeElement", "(Ljava/lang/Object;)Z"⟩) (rest := []) (av := [.ref b]) cx hK (mt_v_removeElement l g pa b xs x hlo) rfl q313 q314 q317 q316 q9 q318 (n9 := 1) ⟨by decide, by decide, by decide +kernel⟩ rfl (hV.rc hK) ⟨⟨_, hf⟩, dv_mI hM, ⟨hV, hb⟩, (by decide), (by decide)⟩ ⟨⟨Nat.le_of_ble_eq_true rfl, Nat.le_of_ble_eq_true rfl⟩, Nat.le_of_ble_eq_true rfl⟩ rfl rfl dX0_remove_8 (fun v h2 hS hf2 => ?_)
  obtain ⟨i, hi, hS⟩ := hS
  rcases hS with ⟨s1, rfl, s3⟩ | ⟨s1, rfl, s3⟩
  · exact Ret _ _ _ _ _ _ _ (by decide) (by decide) ⟨i, hi, Or.inl ⟨s1, rfl, s3⟩⟩ (hf.nil.trans hf2) (dv_roz (Or.inr rfl) dX0_remove_11)
  · exact Ret _ _ _ _ _ _ _ (by decide) (by decide) ⟨i, hi, Or.inr ⟨s1, rfl, s3⟩⟩ (hf.nil.trans hf2) (dv_roz (Or.inl rfl) dX0_remove_11)
/-- at(i) -/
theorem mt_x_at (l : Launch) (g : dv_P) (d pa tb i : Nat) (xs : List Int32) (x : Int32) (hx : xs[i]? = some x) (hlo : dv_lo g ≤ pa) : dv_M l yX0_at (ws_ yX0_at cX0_at 2 (some .int)) 2 56 0 0 g [.ref d, .int (nI i)] [pa] (dv_Px g d pa tb xs) [] (fun v h h1 => v = some (.int x) ∧ h1 = h) := by
  refine dv_of (by decide +kernel) (dv_cat rfl) ?_
  intro p e s m args below meth c Q cx hnm hK hM hP Ret
  refine dv_aload_n (pc := 0) cx dX0_at_0 rfl rfl rfl ?_
  refine gf_122 cx hK hP.1 dX0_at_1 ?_
  refine dv_iload_n (pc := 4) cx dX0_at_4 rfl rfl ?_
  refine dv_cUS (C := RJ3) (x := ⟨"java/util/Stack", "elementAt", "(I)Ljava/lang/Object;"⟩) (rest := []) (av := [.int (nI i)]) cx hK (mt_v_at l g pa xs i x hx hlo) rfl q334 q235 q238 q237 q9 q239 (n9 := 1) ⟨by decide, by decide, by decide +kernel⟩ rfl (hP.2.rc hK) ⟨⟨[], dv_fr.rf⟩, dv_mI hM, hP.2, (by decide), (by decide)⟩ ⟨⟨Nat.le_of_ble_eq_true rfl, Nat.le_of_ble_eq_true rfl⟩, Nat.le_of_ble_eq_true rfl⟩ rfl rfl dX0_at_5 (fun v h2 hS hf2 => ?_)
  obtain ⟨b, rfl, rfl, hb2⟩ := hS
  refine dv_castB cx hK hb2 dX0_at_8 ?_
  refine dv_cV (C := RJ9) (rest := []) (av := []) cx hK (mt_intValue l g b x) q212 q213 q214 q16 q215 (n9 := 0) ⟨by decide, by decide, by decide +kernel⟩ rfl (hb2.rc hK) ⟨⟨_, hf2⟩, dv_m0, hb2, (by decide), (by decide)⟩ ⟨⟨Nat.le_of_ble_eq_true rfl, Nat.le_of_ble_eq_true rfl⟩, Nat.le_of_ble_eq_true rfl⟩ rfl rfl dX0_at_11 (fun v h3 hS hf3 => ?_)
  obtain ⟨rfl, rfl⟩ := hS
  exact Ret _ _ _ _ _ _ _ (by decide) (by decide) ⟨rfl, rfl⟩ hf2 (dv_roi dX0_at_14)
/-- size() -/
theorem mt_x_size (l : Launch) (g : dv_P) (d pa tb : Nat) (xs : List Int32) (hlo : dv_lo g ≤ pa) : dv_M l yX0_size (ws_ yX0_size cX0_size 1 (some .int)) 1 28 0 0 g [.ref d] [pa] (dv_Px g d pa tb xs) [] (fun v h h1 => v = some (.int (nI xs.length)) ∧ h1 = h) := by
  refine dv_of (by decide +kernel) (dv_cat rfl) ?_
  intro p e s m args below meth c Q cx hnm hK hM hP Ret
  refine dv_aload_n (pc := 0) cx dX0_size_0 rfl rfl rfl ?_
  refine gf_122 cx hK hP.1 dX0_size_1 ?_
  refine dv_cUS (C := RJ3) (x := ⟨"java/util/Stack", "size", "()I"⟩) (rest := []) (av := []) cx hK (mt_v_size l g pa xs hlo) rfl q339 q225 q228 q227 q9 q229 (n9 := 0) ⟨by decide, by decide, by decide +kernel⟩ rfl (hP.2.rc hK) ⟨⟨[], dv_fr.rf⟩, dv_mI hM, hP.2, (by decide), (by decide)⟩ ⟨⟨Nat.le_of_ble_eq_true rfl, Nat.le_of_ble_eq_true rfl⟩, Nat.le_of_ble_eq_true rfl⟩ rfl rfl dX0_size_4 (fun v h2 hS hf2 => ?_)
  obtain ⟨rfl, rfl⟩ := hS
  exact Ret _ _ _ _ _ _ _ (by decide) (by decide) ⟨rfl, rfl⟩ hf2 (dv_roi dX0_size_7)
/-- what a look-up answers: the value, or no -/
abbrev dv_Lv (kv : List (Int32 × Int32)) (k no r : Int32) : Prop := (k, r) ∈ kv ∨ ((∀ z, (k, z) ∉ kv) ∧ r = no)
/-- put(k, z, no) -/
theorem mt_x_put (l : Launch) (g : dv_P) (d pa tb : Nat) (k z no : Int32) (kv : List (Int32 × Int32)) (hn : kv.length ≤ 1699) (hlo : dv_lo g ≤ tb) : dv_M l yX0_put (ws_ yX0_put cX0_put 5 (some .int)) 4 112 4 3077 g [.ref d, .int k, .int z, .int no] [tb] (dv_Pt g d pa tb kv) (dv_kk g [2, 3, 11]) (fun v _ h1 => ∃ r, v = some (.int r) ∧ dv_Lv kv k no r ∧ dv_Ta g h1 tb ((k, z) :: dv_wo k kv)) := by
  refine dv_of (by decide +kernel) (dv_cat rfl) ?_
  intro p e s m args below meth c Q cx hnm hK hM hP Ret
  have ap := hK.ap
  refine dv_aload_n (pc := 0) cx dX0_put_0 rfl rfl rfl ?_
  refine gf_123 cx hK hP.1 dX0_put_1 ?_
  refine dv_iload_n (pc := 4) cx dX0_put_4 rfl rfl ?_
  refine dv_cS (rest := [.ref tb]) (avs := [.int k]) cx hK (mt_valueOf l g k) q133 q134 q16 q135 (n9 := 1) ⟨by decide, by decide, by decide +kernel⟩ rfl ⟨⟨[], dv_fr.rf⟩, dv_m0, trivial, (by decide), (by decide)⟩ ⟨⟨Nat.le_of_ble_eq_true rfl, Nat.le_of_ble_eq_true rfl⟩, Nat.le_of_ble_eq_true rfl⟩ rfl rfl dX0_put_5 (fun v h1 hS hf => ?_)
  obtain ⟨b, rfl, hb⟩ := hS
  refine dv_iload_n (pc := 8) cx dX0_put_8 rfl rfl ?_
  refine dv_cS (rest := [.ref b, .ref tb]) (avs := [.int z]) cx hK (mt_valueOf l g z) q133 q134 q16 q135 (n9 := 1) ⟨by decide, by decide, by decide +kernel⟩ rfl ⟨⟨[], hf⟩, dv_m0, trivial, (by decide), (by decide)⟩ ⟨⟨Nat.le_of_ble_eq_true rfl, Nat.le_of_ble_eq_true rfl⟩, Nat.le_of_ble_eq_true rfl⟩ rfl rfl dX0_put_9 (fun v h2 hS hf2 => ?_)
  obtain ⟨b2, rfl, hb2⟩ := hS
  have hT := hP.2.fr (js := []) ap (hf.trans hf2) (by decide)
  refine dv_cVS (C := RJ5) (rest := []) (av := [.ref b, .ref b2]) cx hK (mt_t_put l g tb b b2 k z kv hn hlo) q344 q345 q346 q12 q347 (n9 := 2) ⟨by decide, by decide, by decide +kernel⟩ rfl (hT.rc hK) ⟨⟨_, hf.trans hf2⟩, dv_mI hM, ⟨hT, hb.fr hf2 List.not_mem_nil, hb2⟩, (by decide), (by decide)⟩ ⟨⟨Nat.le_of_ble_eq_true rfl, Nat.le_of_ble_eq_true rfl⟩, Nat.le_of_ble_eq_true rfl⟩ rfl rfl dX0_put_12 (fun v h3 hS hf3 => ?_)
  obtain ⟨hL, hT3⟩ := hS
  have f3 := (hf.trans hf2).nil.trans hf3
  rcases hL with ⟨r, br, hr, rfl, hbr⟩ | ⟨hno, rfl⟩
  · have hbr3 := hbr.fr hf3 (dv_nin ap 5 (by decide))
    refine dv_castB cx hK hbr3 dX0_put_15 ?_
    refine dv_astore (pc := 18) cx dX0_put_18 rfl rfl rfl ?_
    refine dv_aload (pc := 20) cx dX0_put_20 rfl rfl ?_
    refine dv_ifnonnull (tgt := 29) cx dX0_put_22 (by decide) ?_
    refine dv_aload (pc := 29) cx dX0_put_29 rfl rfl ?_
    refine dv_cV (C := RJ9) (rest := []) (av := []) cx hK (mt_intValue l g br r) q212 q213 q214 q16 q215 (n9 := 0) ⟨by decide, by decide, by decide +kernel⟩ rfl (hbr3.rc hK) ⟨⟨_, f3⟩, dv_m0, hbr3, (by decide), (by decide)⟩ ⟨⟨Nat.le_of_ble_eq_true rfl, Nat.le_of_ble_eq_true rfl⟩, Nat.le_of_ble_eq_true rfl⟩ rfl rfl dX0_put_31 (fun v h4 hS hf4 => ?_)
    obtain ⟨rfl, rfl⟩ := hS
    exact Ret _ _ _ _ _ _ _ (by decide) (by decide) ⟨r, rfl, Or.inl hr, hT3⟩ f3 (dv_roi dX0_put_34)
  · refine dv_castN cx dX0_put_15 ?_
    refine dv_astore (pc := 18) cx dX0_put_18 rfl rfl rfl ?_
    refine dv_aload (pc := 20) cx dX0_put_20 rfl rfl ?_
    refine dv_ifnonnullN cx dX0_put_22 ?_
    refine dv_iload_n (pc := 25) cx dX0_put_25 rfl rfl ?_
    refine dv_goto (pc := 26) (tgt := 34) cx dX0_put_26 (by decide) ?_
    exact Ret _ _ _ _ _ _ _ (by decide) (by decide) ⟨no, rfl, Or.inr ⟨hno, rfl⟩, hT3⟩ f3 (dv_roi dX0_put_34)
/-- get(k, no) -/
theorem mt_x_get (l : Launch) (g : dv_P) (d pa tb : Nat) (k no : Int32) (kv : List (Int32 × Int32)) (hlo : dv_lo g ≤ tb) : dv_M l yX0_get (ws_ yX0_get cX0_get 4 (some .int)) 4 112 1 1 g [.ref d, .int k, .int no] [tb] (dv_Pt g d pa tb kv) [] (fun v _ _ => ∃ r, v = some (.int r) ∧ dv_Lv kv k no r) := by
  refine dv_of (by decide +kernel) (dv_cat rfl) ?_
  intro p e s m args below meth c Q cx hnm hK hM hP Ret
  have ap := hK.ap
  refine dv_aload_n (pc := 0) cx dX0_get_0 rfl rfl rfl ?_
  refine gf_123 cx hK hP.1 dX0_get_1 ?_
  refine dv_iload_n (pc := 4) cx dX0_get_4 rfl rfl ?_
  refine dv_cS (rest := [.ref tb]) (avs := [.int k]) cx hK (mt_valueOf l g k) q133 q134 q16 q135 (n9 := 1) ⟨by decide, by decide, by decide +kernel⟩ rfl ⟨⟨[], dv_fr.rf⟩, dv_m0, trivial, (by decide), (by decide)⟩ ⟨⟨Nat.le_of_ble_eq_true rfl, Nat.le_of_ble_eq_true rfl⟩, Nat.le_of_ble_eq_true rfl⟩ rfl rfl dX0_get_5 (fun v h1 hS hf => ?_)
  obtain ⟨b, rfl, hb⟩ := hS
  have hT := hP.2.fr (js := []) ap hf (by decide)
  refine dv_cVS (C := RJ5) (rest := []) (av := [.ref b]) cx hK (mt_t_get l g tb b kv k hlo) q400 q401 q402 q12 q403 (n9 := 1) ⟨by decide, by decide, by decide +kernel⟩ rfl (hT.rc hK) ⟨⟨_, hf⟩, dv_mI hM, ⟨hT, hb⟩, (by decide), (by decide)⟩ ⟨⟨Nat.le_of_ble_eq_true rfl, Nat.le_of_ble_eq_true rfl⟩, Nat.le_of_ble_eq_true rfl⟩ rfl rfl dX0_get_8 (fun v h3 hS hf3 => ?_)
  obtain ⟨rfl, hL⟩ := hS
  rcases hL with ⟨r, br, hr, rfl, hbr⟩ | ⟨hno, rfl⟩
  · refine dv_castB cx hK hbr dX0_get_11 ?_
    refine dv_astore_n (pc := 14) cx dX0_get_14 rfl rfl rfl rfl ?_
    refine dv_aload_n (pc := 15) cx dX0_get_15 rfl rfl rfl ?_
    refine dv_ifnonnull (tgt := 23) cx dX0_get_16 (by decide) ?_
    refine dv_aload_n (pc := 23) cx dX0_get_23 rfl rfl rfl ?_
    refine dv_cV (C := RJ9) (rest := []) (av := []) cx hK (mt_intValue l g br r) q212 q213 q214 q16 q215 (n9 := 0) ⟨by decide, by decide, by decide +kernel⟩ rfl (hbr.rc hK) ⟨⟨_, hf⟩, dv_m0, hbr, (by decide), (by decide)⟩ ⟨⟨Nat.le_of_ble_eq_true rfl, Nat.le_of_ble_eq_true rfl⟩, Nat.le_of_ble_eq_true rfl⟩ rfl rfl dX0_get_24 (fun v h4 hS hf4 => ?_)
    obtain ⟨rfl, rfl⟩ := hS
    exact Ret _ _ _ _ _ _ _ (by decide) (by decide) ⟨r, rfl, Or.inl hr⟩ hf (dv_roi dX0_get_27)
  · refine dv_castN cx dX0_get_11 ?_
    refine dv_astore_n (pc := 14) cx dX0_get_14 rfl rfl rfl rfl ?_
    refine dv_aload_n (pc := 15) cx dX0_get_15 rfl rfl rfl ?_
    refine dv_ifnonnullN cx dX0_get_16 ?_
    refine dv_iload_n (pc := 19) cx dX0_get_19 rfl rfl ?_
    refine dv_goto (pc := 20) (tgt := 27) cx dX0_get_20 (by decide) ?_
    exact Ret _ _ _ _ _ _ _ (by decide) (by decide) ⟨no, rfl, Or.inr ⟨hno, rfl⟩⟩ hf (dv_roi dX0_get_27)
/-- take(k, no) -/
theorem mt_x_take (l : Launch) (g : dv_P) (d pa tb : Nat) (k no : Int32) (kv : List (Int32 × Int32)) (hn : kv.length ≤ 1700) (hlo : dv_lo g ≤ tb) : dv_M l yX0_take (ws_ yX0_take cX0_take 4 (some .int)) 4 112 1 1 g [.ref d, .int k, .int no] [tb] (dv_Pt g d pa tb kv) (dv_kk g [2, 3, 11]) (fun v _ h1 => ∃ r, v = some (.int r) ∧ dv_Lv kv k no r ∧ dv_Ta g h1 tb (dv_wo k kv)) := by
  refine dv_of (by decide +kernel) (dv_cat rfl) ?_
  intro p e s m args below meth c Q cx hnm hK hM hP Ret
  have ap := hK.ap
  refine dv_aload_n (pc := 0) cx dX0_take_0 rfl rfl rfl ?_
  refine gf_123 cx hK hP.1 dX0_take_1 ?_
  refine dv_iload_n (pc := 4) cx dX0_take_4 rfl rfl ?_
  refine dv_cS (rest := [.ref tb]) (avs := [.int k]) cx hK (mt_valueOf l g k) q133 q134 q16 q135 (n9 := 1) ⟨by decide, by decide, by decide +kernel⟩ rfl ⟨⟨[], dv_fr.rf⟩, dv_m0, trivial, (by decide), (by decide)⟩ ⟨⟨Nat.le_of_ble_eq_true rfl, Nat.le_of_ble_eq_true rfl⟩, Nat.le_of_ble_eq_true rfl⟩ rfl rfl dX0_take_5 (fun v h1 hS hf => ?_)
  obtain ⟨b, rfl, hb⟩ := hS
  have hT := hP.2.fr (js := []) ap hf (by decide)
  refine dv_cVS (C := RJ5) (rest := []) (av := [.ref b]) cx hK (mt_t_remove l g tb b k kv hn hlo) q408 q409 q410 q12 q411 (n9 := 1) ⟨by decide, by decide, by decide +kernel⟩ rfl (hT.rc hK) ⟨⟨_, hf⟩, dv_mI hM, ⟨hT, hb⟩, (by decide), (by decide)⟩ ⟨⟨Nat.le_of_ble_eq_true rfl, Nat.le_of_ble_eq_true rfl⟩, Nat.le_of_ble_eq_true rfl⟩ rfl rfl dX0_take_8 (fun v h3 hS hf3 => ?_)
  obtain ⟨hL, hT3⟩ := hS
  have f3 := hf.nil.trans hf3
  rcases hL with ⟨r, br, hr, rfl, hbr⟩ | ⟨hno, rfl⟩
  · have hbr3 := hbr.fr hf3 (dv_nin ap 5 (by decide))
    refine dv_castB cx hK hbr3 dX0_take_11 ?_
    refine dv_astore_n (pc := 14) cx dX0_take_14 rfl rfl rfl rfl ?_
    refine dv_aload_n (pc := 15) cx dX0_take_15 rfl rfl rfl ?_
    refine dv_ifnonnull (tgt := 23) cx dX0_take_16 (by decide) ?_
    refine dv_aload_n (pc := 23) cx dX0_take_23 rfl rfl rfl ?_
    refine dv_cV (C := RJ9) (rest := []) (av := []) cx hK (mt_intValue l g br r) q212 q213 q214 q16 q215 (n9 := 0) ⟨by decide, by decide, by decide +kernel⟩ rfl (hbr3.rc hK) ⟨⟨_, f3⟩, dv_m0, hbr3, (by decide), (by decide)⟩ ⟨⟨Nat.le_of_ble_eq_true rfl, Nat.le_of_ble_eq_true rfl⟩, Nat.le_of_ble_eq_true rfl⟩ rfl rfl dX0_take_24 (fun v h4 hS hf4 => ?_)
    obtain ⟨rfl, rfl⟩ := hS
    exact Ret _ _ _ _ _ _ _ (by decide) (by decide) ⟨r, rfl, Or.inl hr, hT3⟩ f3 (dv_roi dX0_take_27)
  · refine dv_castN cx dX0_take_11 ?_
    refine dv_astore_n (pc := 14) cx dX0_take_14 rfl rfl rfl rfl ?_
    refine dv_aload_n (pc := 15) cx dX0_take_15 rfl rfl rfl ?_
    refine dv_ifnonnullN cx dX0_take_16 ?_
    refine dv_iload_n (pc := 19) cx dX0_take_19 rfl rfl ?_
    refine dv_goto (pc := 20) (tgt := 27) cx dX0_take_20 (by decide) ?_
    exact Ret _ _ _ _ _ _ _ (by decide) (by decide) ⟨no, rfl, Or.inr ⟨hno, rfl⟩, hT3⟩ f3 (dv_roi dX0_take_27)
/-- holds(z) -/
theorem mt_x_holds (l : Launch) (g : dv_P) (d pa tb : Nat) (z : Int32) (kv : List (Int32 × Int32)) (hlo : dv_lo g ≤ tb) : dv_M l yX0_holds (ws_ yX0_holds cX0_holds 2 (some .boolean)) 4 112 1 1 g [.ref d, .int z] [tb] (dv_Pt g d pa tb kv) [] (fun v _ _ => ((∃ k, (k, z) ∈ kv) ∧ v = some (.int 1)) ∨ ((∀ k, (k, z) ∉ kv) ∧ v = some (.int 0))) := by
  refine dv_of (by decide +kernel) (dv_cat rfl) ?_
  intro p e s m args below meth c Q cx hnm hK hM hP Ret
  have ap := hK.ap
  refine dv_aload_n (pc := 0) cx dX0_holds_0 rfl rfl rfl ?_
  refine gf_123 cx hK hP.1 dX0_holds_1 ?_
  refine dv_iload_n (pc := 4) cx dX0_holds_4 rfl rfl ?_
  refine dv_cS (rest := [.ref tb]) (avs := [.int z]) cx hK (mt_valueOf l g z) q133 q134 q16 q135 (n9 := 1) ⟨by decide, by decide, by decide +kernel⟩ rfl ⟨⟨[], dv_fr.rf⟩, dv_m0, trivial, (by decide), (by decide)⟩ ⟨⟨Nat.le_of_ble_eq_true rfl, Nat.le_of_ble_eq_true rfl⟩, Nat.le_of_ble_eq_true rfl⟩ rfl rfl dX0_holds_5 (fun v h1 hS hf => ?_)
  obtain ⟨b, rfl, hb⟩ := hS
  have hT := hP.2.fr (js := []) ap hf (by decide)
  refine dv_cVS (C := RJ5) (rest := []) (av := [.ref b]) cx hK (mt_t_contains l g tb b kv z hlo) q416 q417 q418 q12 q419 (n9 := 1) ⟨by decide, by decide, by decide +kernel⟩ rfl (hT.rc hK) ⟨⟨_, hf⟩, dv_mI hM, ⟨hT, hb⟩, (by decide), (by decide)⟩ ⟨⟨Nat.le_of_ble_eq_true rfl, Nat.le_of_ble_eq_true rfl⟩, Nat.le_of_ble_eq_true rfl⟩ rfl rfl dX0_holds_8 (fun v h3 hS hf3 => ?_)
  obtain ⟨rfl, hS⟩ := hS
  rcases hS with ⟨s1, rfl⟩ | ⟨s1, rfl⟩
  · exact Ret _ _ _ _ _ _ _ (by decide) (by decide) (Or.inl ⟨s1, rfl⟩) hf (dv_roz (Or.inr rfl) dX0_holds_11)
  · exact Ret _ _ _ _ _ _ _ (by decide) (by decide) (Or.inr ⟨s1, rfl⟩) hf (dv_roz (Or.inl rfl) dX0_holds_11)
/-- has(k) -/
theorem mt_x_has (l : Launch) (g : dv_P) (d pa tb : Nat) (k : Int32) (kv : List (Int32 × Int32)) (hlo : dv_lo g ≤ tb) : dv_M l yX0_has (ws_ yX0_has cX0_has 2 (some .boolean)) 4 112 1 1 g [.ref d, .int k] [tb] (dv_Pt g d pa tb kv) [] (fun v _ _ => ((∃ z, (k, z) ∈ kv) ∧ v = some (.int 1)) ∨ ((∀ z, (k, z) ∉ kv) ∧ v = some (.int 0))) := by
  refine dv_of (by decide +kernel) (dv_cat rfl) ?_
  intro p e s m args below meth c Q cx hnm hK hM hP Ret
  have ap := hK.ap
  refine dv_aload_n (pc := 0) cx dX0_has_0 rfl rfl rfl ?_
  refine gf_123 cx hK hP.1 dX0_has_1 ?_
  refine dv_iload_n (pc := 4) cx dX0_has_4 rfl rfl ?_
  refine dv_cS (rest := [.ref tb]) (avs := [.int k]) cx hK (mt_valueOf l g k) q133 q134 q16 q135 (n9 := 1) ⟨by decide, by decide, by decide +kernel⟩ rfl ⟨⟨[], dv_fr.rf⟩, dv_m0, trivial, (by decide), (by decide)⟩ ⟨⟨Nat.le_of_ble_eq_true rfl, Nat.le_of_ble_eq_true rfl⟩, Nat.le_of_ble_eq_true rfl⟩ rfl rfl dX0_has_5 (fun v h1 hS hf => ?_)
  obtain ⟨b, rfl, hb⟩ := hS
  have hT := hP.2.fr (js := []) ap hf (by decide)
  refine dv_cVS (C := RJ5) (rest := []) (av := [.ref b]) cx hK (mt_t_containsKey l g tb b kv k hlo) q424 q425 q426 q12 q427 (n9 := 1) ⟨by decide, by decide, by decide +kernel⟩ rfl (hT.rc hK) ⟨⟨_, hf⟩, dv_mI hM, ⟨hT, hb⟩, (by decide), (by decide)⟩ ⟨⟨Nat.le_of_ble_eq_true rfl, Nat.le_of_ble_eq_true rfl⟩, Nat.le_of_ble_eq_true rfl⟩ rfl rfl dX0_has_8 (fun v h3 hS hf3 => ?_)
  obtain ⟨rfl, hS⟩ := hS
  rcases hS with ⟨s1, rfl⟩ | ⟨s1, rfl⟩
  · exact Ret _ _ _ _ _ _ _ (by decide) (by decide) (Or.inl ⟨s1, rfl⟩) hf (dv_roz (Or.inr rfl) dX0_has_11)
  · exact Ret _ _ _ _ _ _ _ (by decide) (by decide) (Or.inr ⟨s1, rfl⟩) hf (dv_roz (Or.inl rfl) dX0_has_11)
/-- tableSize() -/
theorem mt_x_tableSize (l : Launch) (g : dv_P) (d pa tb : Nat) (kv : List (Int32 × Int32)) (hlo : dv_lo g ≤ tb) : dv_M l yX0_tableSize (ws_ yX0_tableSize cX0_tableSize 1 (some .int)) 1 28 0 0 g [.ref d] [tb] (dv_Pt g d pa tb kv) [] (fun v h h1 => v = some (.int (nI kv.length)) ∧ h1 = h) := by
  refine dv_of (by decide +kernel) (dv_cat rfl) ?_
  intro p e s m args below meth c Q cx hnm hK hM hP Ret
  refine dv_aload_n (pc := 0) cx dX0_tableSize_0 rfl rfl rfl ?_
  refine gf_123 cx hK hP.1 dX0_tableSize_1 ?_
  refine dv_cVS (C := RJ5) (rest := []) (av := []) cx hK (mt_t_size l g tb kv hlo) q432 q433 q434 q12 q435 (n9 := 0) ⟨by decide, by decide, by decide +kernel⟩ rfl (hP.2.rc hK) ⟨⟨[], dv_fr.rf⟩, dv_mI hM, hP.2, (by decide), (by decide)⟩ ⟨⟨Nat.le_of_ble_eq_true rfl, Nat.le_of_ble_eq_true rfl⟩, Nat.le_of_ble_eq_true rfl⟩ rfl rfl dX0_tableSize_4 (fun v h3 hS hf3 => ?_)
  obtain ⟨rfl, rfl⟩ := hS
  exact Ret _ _ _ _ _ _ _ (by decide) (by decide) ⟨rfl, rfl⟩ hf3 (dv_roi dX0_tableSize_7)
end
section
/-! ===== LegacyDrill: sum ===== -/
set_option maxRecDepth 100000
/-- the number that sum() makes of the pairs -/
def dv_sm : List (Int32 × Int32) → Int32
  | [] => 0
  | y :: r => (y.1 * 31 ^^^ y.2) + dv_sm r
theorem dv_sm_perm {a b : List (Int32 × Int32)} (h : a.Perm b) : dv_sm a = dv_sm b := by
  induction h with
  | nil => rfl
  | cons x _ ih => rw [dv_sm, dv_sm, ih]
  | swap x y r => rw [dv_sm, dv_sm, dv_sm, dv_sm, ← Int32.add_assoc, ← Int32.add_assoc, Int32.add_comm (y.1 * 31 ^^^ y.2)]
  | trans _ _ h1 h2 => exact h1.trans h2
theorem dv_kuniq {k z z' : Int32} : ∀ {kv : List (Int32 × Int32)}, (kv.map (·.1)).Nodup → (k, z) ∈ kv → (k, z') ∈ kv → z = z'
  | [], _, h, _ => absurd h List.not_mem_nil
  | y :: r, hn, h1, h2 => by
    rw [List.map_cons, List.nodup_cons] at hn
    rcases List.mem_cons.mp h1 with e1 | h1
    · rcases List.mem_cons.mp h2 with e2 | h2
      · exact congrArg Prod.snd (e1.trans e2.symm)
      · exact absurd (List.mem_map.mpr ⟨_, h2, by rw [← e1]⟩) hn.1
    · rcases List.mem_cons.mp h2 with e2 | h2
      · exact absurd (List.mem_map.mpr ⟨_, h1, by rw [← e2]⟩) hn.1
      · exact dv_kuniq hn.2 h1 h2
theorem dv_Ta.nd {g : dv_P} {h : dv_H} {t : Nat} {kv : List (Int32 × Int32)} (v : dv_Ta g h t kv) : (kv.map (·.1)).Nodup := by
  obtain ⟨ta, q, L, w, hv, hp⟩ := v
  have h1 := hv.2.2.2.2.2.2.2.2
  have h2 : (((dv_fl L q).map dv_kv).map (·.1)).Nodup := by rw [List.map_map]; exact h1
  exact (hp.map (·.1)).nodup_iff.mp h2
/-- sum() -/
theorem mt_x_sum (l : Launch) (g : dv_P) (d pa tb : Nat) (kv : List (Int32 × Int32)) (hn : kv.length ≤ 1700) (hlo : dv_lo g ≤ tb) : dv_M l yX0_sum (ws_ yX0_sum cX0_sum 4 (some .int)) 4 112 (kv.length + 1) (kv.length + 8) g [.ref d] [tb] (dv_Pt g d pa tb kv) (dv_kk g [4]) (fun v _ _ => v = some (.int (dv_sm kv))) := by
  refine dv_of (by decide +kernel) (dv_cat rfl) ?_
  intro p e s m args below meth c Q cx hnm hK hM hP Ret
  have ap := hK.ap
  have n0 := dv_nin ap 0 (js := [4]) (by decide)
  refine dv_aload_n (pc := 0) cx dX0_sum_0 rfl rfl rfl ?_
  refine gf_123 cx hK hP.1 dX0_sum_1 ?_
  refine dv_cVS (C := RJ5) (rest := []) (av := []) cx hK (mt_t_isEmpty l g tb kv hn hlo) q440 q441 q442 q12 q443 (n9 := 0) ⟨by decide, by decide, by decide +kernel⟩ rfl (hP.2.rc hK) ⟨⟨[], dv_fr.rf⟩, dv_mI hM, hP.2, (Nat.zero_le _), (Nat.zero_le _)⟩ ⟨⟨Nat.le_of_ble_eq_true rfl, Nat.le_of_ble_eq_true rfl⟩, Nat.le_of_ble_eq_true rfl⟩ rfl rfl dX0_sum_4 (fun v h1 hS hf => ?_)
  obtain ⟨rfl, rfl⟩ := hS
  refine dv_if_eq (tgt := 12) cx dX0_sum_7 (by decide) (fun hc => ?_) (fun hc => ?_)
  · have h0 : 0 < kv.length := by
      rcases Nat.eq_zero_or_pos kv.length with z | z
      · rw [if_pos z] at hc; exact absurd hc (by decide)
      · exact z
    have hT0 := hP.2
    obtain ⟨ta, q, L, w, hv, hp⟩ := hP.2
    have hlen : (dv_fl L q).length = kv.length := by rw [← hp.length_eq, List.length_map]
    refine dv_iconst (pc := 12) (v := 0) cx dX0_sum_12 (by decide) ?_
    refine dv_istore_n (pc := 13) cx dX0_sum_13 rfl rfl ?_
    refine dv_aload_n (pc := 14) cx dX0_sum_14 rfl rfl rfl ?_
    refine gf_123 cx hK hP.1 dX0_sum_15 ?_
    refine dv_cVS (C := RJ5) (rest := []) (av := []) cx hK (mt_t_keys l g tb ta q L w (by omega) (by omega) hlo) q444 q445 q446 q12 q447 (n9 := 0) ⟨by decide, by decide, by decide +kernel⟩ rfl (hP.2.rc hK) ⟨⟨[], dv_fr.rf⟩, dv_mI hM, hv, (by show 0 + 0 + 1 ≤ kv.length + 1; omega), (by show 0 + 0 + 8 ≤ kv.length + 8; omega)⟩ ⟨⟨Nat.le_of_ble_eq_true rfl, Nat.le_of_ble_eq_true rfl⟩, Nat.le_of_ble_eq_true rfl⟩ rfl rfl dX0_sum_18 (fun v h1 hS hf1 => ?_)
    obtain ⟨en, rfl, hE1⟩ := hS
    have loop : ∀ (rem pre : List dv_E), dv_fl L q = pre ++ rem → ∀ (h : dv_H) (a : Int32) (sl : Slot), dv_c1 (some sl) = true → dv_fr (dv_lo g) (dv_kk g [4]) (dv_ct s.heap) h → dv_Em g h en ta q L rem → a + dv_sm (rem.map dv_kv) = dv_sm kv →
        dv_V (dv_lo g) p l e (dv_rm 4 112 (kv.length + 1) (kv.length + 8)) s m args below meth c h (1 + pre.length) (8 + pre.length) Q (dv_G none 0 m 22 [.val (.ref d), .val (.int a), .val (.ref en), sl] []) := by
      intro rem
      induction rem with
      | nil =>
        intro pre hpre h a sl hsl hF hE hs
        have hpl : pre.length = kv.length := by rw [← hlen, hpre, List.append_nil]
        have hv' := hv.fr ap hF (by decide)
        refine dv_aload_n (pc := 22) cx dX0_sum_22 rfl rfl rfl ?_
        refine dv_cF (C := RJ15) (x := dv_xHas) (rest := []) (av := []) ((hK.2.2.1.1.1 4 _ rfl).2) cx hK (mt_en_has l g en tb ta q L w []) hK.2.2.1.2.2.2.2.2.2.1 q489 q501 q499 q24 q503 (n9 := 0) ⟨by decide, by decide, by decide +kernel⟩ rfl (hE.rc hK) ⟨⟨_, hF⟩, dv_m0, ⟨hv', hE⟩, (by show 1 + pre.length + 0 ≤ kv.length + 1; omega), (by show 8 + pre.length + 0 ≤ kv.length + 8; omega)⟩ ⟨⟨Nat.le_of_ble_eq_true rfl, Nat.le_of_ble_eq_true rfl⟩, Nat.le_of_ble_eq_true rfl⟩ rfl rfl dX0_sum_23 (fun v h2 hS hf2 => ?_)
        obtain ⟨rfl, -⟩ := hS
        rw [if_pos rfl]
        refine dv_if_eq (tgt := 72) cx dX0_sum_28 (by decide) (fun _ => ?_) (fun z => absurd rfl z)
        refine dv_iload_n (pc := 72) cx dX0_sum_72 rfl rfl ?_
        have e1 : a = dv_sm kv := by rw [← hs]; exact (Int32.add_zero a).symm
        exact Ret _ _ _ _ _ _ _ (by show 1 + pre.length + 0 ≤ kv.length + 1; omega) (by show 8 + pre.length + 0 ≤ kv.length + 8; omega) (by rw [e1]) (hF.trans hf2) (dv_roi dX0_sum_73)
      | cons x r ih =>
        intro pre hpre h a sl hsl hF hE hs
        have hpl : pre.length + 1 + r.length = kv.length := by rw [← hlen, hpre, List.length_append, List.length_cons]; omega
        have hv' := hv.fr ap hF (by decide)
        refine dv_aload_n (pc := 22) cx dX0_sum_22 rfl rfl rfl ?_
        refine dv_cF (C := RJ15) (x := dv_xHas) (rest := []) (av := []) ((hK.2.2.1.1.1 4 _ rfl).2) cx hK (mt_en_has l g en tb ta q L w (x :: r)) hK.2.2.1.2.2.2.2.2.2.1 q489 q501 q499 q24 q503 (n9 := 0) ⟨by decide, by decide, by decide +kernel⟩ rfl (hE.rc hK) ⟨⟨_, hF⟩, dv_m0, ⟨hv', hE⟩, (by show 1 + pre.length + 0 ≤ kv.length + 1; omega), (by show 8 + pre.length + 0 ≤ kv.length + 8; omega)⟩ ⟨⟨Nat.le_of_ble_eq_true rfl, Nat.le_of_ble_eq_true rfl⟩, Nat.le_of_ble_eq_true rfl⟩ rfl rfl dX0_sum_23 (fun v h2 hS hf2 => ?_)
        obtain ⟨rfl, hE2⟩ := hS
        rw [if_neg (List.cons_ne_nil _ _)]
        refine dv_if_eq (tgt := 72) cx dX0_sum_28 (by decide) (fun z => absurd z (by decide)) (fun _ => ?_)
        have hF2 := hF.trans hf2
        refine dv_aload_n (pc := 31) cx dX0_sum_31 rfl rfl rfl ?_
        refine dv_cF (C := RJ15) (x := dv_xNext) (rest := []) (av := []) ((hK.2.2.1.1.1 4 _ rfl).2) cx hK (mt_en_next l g en tb ta q L w x r) hK.2.2.1.2.2.2.2.2.2.2.1 q505 q515 q513 q24 q517 (n9 := 0) ⟨by decide, by decide, by decide +kernel⟩ rfl (hE2.rc hK) ⟨⟨_, hF2⟩, dv_m0, ⟨hv.fr ap hF2 (by decide), hE2⟩, (by show 1 + pre.length + 0 + 0 ≤ kv.length + 1; omega), (by show 8 + pre.length + 0 + 0 ≤ kv.length + 8; omega)⟩ ⟨⟨Nat.le_of_ble_eq_true rfl, Nat.le_of_ble_eq_true rfl⟩, Nat.le_of_ble_eq_true rfl⟩ rfl rfl dX0_sum_32 (fun v h3 hS hf3 => ?_)
        obtain ⟨rfl, hx2, hE3⟩ := hS
        have hx3 := hx2.fr hf3 (dv_nin ap 5 (by decide))
        have hF3 := hF2.trans hf3
        refine dv_castB cx hK hx3 dX0_sum_37 ?_
        refine dv_cV (C := RJ9) (rest := []) (av := []) cx hK (mt_intValue l g x.2.1 x.2.2.1) q212 q213 q214 q16 q215 (n9 := 0) ⟨by decide, by decide, by decide +kernel⟩ rfl (hx3.rc hK) ⟨⟨_, hF3⟩, dv_m0, hx3, (by show 1 + pre.length + 0 + 0 + 0 ≤ kv.length + 1; omega), (by show 8 + pre.length + 0 + 0 + 0 ≤ kv.length + 8; omega)⟩ ⟨⟨Nat.le_of_ble_eq_true rfl, Nat.le_of_ble_eq_true rfl⟩, Nat.le_of_ble_eq_true rfl⟩ rfl rfl dX0_sum_40 (fun v h4 hS hf4 => ?_)
        obtain ⟨rfl, rfl⟩ := hS
        refine dv_istore_n (pc := 43) cx dX0_sum_43 rfl hsl ?_
        refine dv_iload_n (pc := 44) cx dX0_sum_44 rfl rfl ?_
        refine dv_iload_n (pc := 45) cx dX0_sum_45 rfl rfl ?_
        refine dv_bipush (pc := 46) (v := 31) cx dX0_sum_46 (by decide) ?_
        refine dv_imul (pc := 48) cx dX0_sum_48 rfl ?_
        refine dv_aload_n (pc := 49) cx dX0_sum_49 rfl rfl rfl ?_
        refine gf_123 cx hK (hP.1.fr hF3 n0) dX0_sum_50 ?_
        refine dv_iload_n (pc := 53) cx dX0_sum_53 rfl rfl ?_
        refine dv_cS (rest := [.ref tb, .int (x.2.2.1 * 31), .int a]) (avs := [.int x.2.2.1]) cx hK (mt_valueOf l g x.2.2.1) q133 q134 q16 q135 (n9 := 1) ⟨by decide, by decide, by decide +kernel⟩ rfl ⟨⟨_, hF3⟩, dv_m0, trivial, (by show 1 + pre.length + 0 + 0 + 0 + 1 ≤ kv.length + 1; omega), (by show 8 + pre.length + 0 + 0 + 0 + 1 ≤ kv.length + 8; omega)⟩ ⟨⟨Nat.le_of_ble_eq_true rfl, Nat.le_of_ble_eq_true rfl⟩, Nat.le_of_ble_eq_true rfl⟩ rfl rfl dX0_sum_54 (fun v h5 hS hf5 => ?_)
        obtain ⟨b, rfl, hb⟩ := hS
        have hF5 := hF3.trans hf5.nil
        have hT5 := hT0.fr ap hF5 (by decide)
        refine dv_cVS (C := RJ5) (rest := [.int (x.2.2.1 * 31), .int a]) (av := [.ref b]) cx hK (mt_t_get l g tb b kv x.2.2.1 hlo) q400 q401 q402 q12 q403 (n9 := 1) ⟨by decide, by decide, by decide +kernel⟩ rfl (hT5.rc hK) ⟨⟨_, hF5⟩, dv_mI hM, ⟨hT5, hb⟩, (by show 1 + pre.length + 0 + 0 + 0 + 1 + 0 ≤ kv.length + 1; omega), (by show 8 + pre.length + 0 + 0 + 0 + 1 + 0 ≤ kv.length + 8; omega)⟩ ⟨⟨Nat.le_of_ble_eq_true rfl, Nat.le_of_ble_eq_true rfl⟩, Nat.le_of_ble_eq_true rfl⟩ rfl rfl dX0_sum_57 (fun v h6 hS hf6 => ?_)
        obtain ⟨rfl, hL⟩ := hS
        have hxm : (x.2.2.1, dv_ev x) ∈ kv := hp.mem_iff.mp (List.mem_map.mpr ⟨x, by rw [hpre]; exact List.mem_append_right _ List.mem_cons_self, rfl⟩)
        rcases hL with ⟨z, bz, hz, rfl, hbz⟩ | ⟨hno, -⟩
        · have ez : z = dv_ev x := dv_kuniq hT0.nd hz hxm
          subst ez
          refine dv_castB cx hK hbz dX0_sum_60 ?_
          refine dv_cV (C := RJ9) (rest := [.int (x.2.2.1 * 31), .int a]) (av := []) cx hK (mt_intValue l g bz (dv_ev x)) q212 q213 q214 q16 q215 (n9 := 0) ⟨by decide, by decide, by decide +kernel⟩ rfl (hbz.rc hK) ⟨⟨_, hF5⟩, dv_m0, hbz, (by show 1 + pre.length + 0 + 0 + 0 + 1 + 0 + 0 ≤ kv.length + 1; omega), (by show 8 + pre.length + 0 + 0 + 0 + 1 + 0 + 0 ≤ kv.length + 8; omega)⟩ ⟨⟨Nat.le_of_ble_eq_true rfl, Nat.le_of_ble_eq_true rfl⟩, Nat.le_of_ble_eq_true rfl⟩ rfl rfl dX0_sum_63 (fun v h7 hS hf7 => ?_)
          obtain ⟨rfl, rfl⟩ := hS
          refine dv_ixor (pc := 66) cx dX0_sum_66 rfl ?_
          refine dv_iadd (pc := 67) cx dX0_sum_67 rfl ?_
          refine dv_istore_n (pc := 68) cx dX0_sum_68 rfl rfl ?_
          refine dv_goto (pc := 69) (tgt := 22) cx dX0_sum_69 (by decide) ?_
          have hE5 := hE3.fr (js := []) ap hf5 (by decide)
          have key := ih (pre ++ [x]) (by rw [hpre, List.append_assoc]; rfl) _ (a + (x.2.2.1 * 31 ^^^ dv_ev x)) (.val (.int x.2.2.1)) rfl hF5 hE5 (by
            rw [← hs, List.map_cons, dv_sm, ← Int32.add_assoc])
          rw [List.length_append] at key
          exact key
        · exact absurd hxm (hno _)
    refine dv_astore_n (pc := 21) cx dX0_sum_21 rfl rfl rfl rfl ?_
    exact loop (dv_fl L q) [] rfl h1 0 .unset rfl hf1 hE1 (by rw [dv_sm_perm hp]; exact Int32.zero_add _)
  · have e0 : kv = [] := by
      rcases Nat.eq_zero_or_pos kv.length with z | z
      · exact List.length_eq_zero_iff.mp z
      · rw [if_neg (by omega)] at hc; exact absurd rfl hc
    refine dv_iconst (pc := 10) (v := 0) cx dX0_sum_10 (by decide) ?_
    exact Ret _ _ _ _ _ _ _ (Nat.zero_le _) (Nat.zero_le _) (by rw [e0]; rfl) dv_fr.rf (dv_roi dX0_sum_11)
end
section
/-! THE CLAIM OUT OF ONE WALK OF THE LAW'S BODY. Your part is whole_start (and what it stands on); all else here is the same for every law, but numbers. -/
def R_law : String := "LegacyDrillLaw"
def lw_P (b : Addr) (xs : List Int32) (args : Array Value) (s : State) : Prop := args = #[.ref b] ∧ s.IntsAt b xs ∧ xs.length ≤ 5000 ∧ (Jvm.Cond.and given_1 narrow_1).before args s = true
def lw_Q (_ : Array Value) (s : State) (o : Outcome) (t : State) : Prop := o = .returned (some (.int 1)) ∧ Framed s o t [] 1200000 5502250
def lw_Z (below : List Frame) (a : Array Value) (s : State) : State → Prop := fun t => ∃ o, t.status = .running ∧ Ended t below o ∧ lw_Q a s o t
/-- the law's own end, with 1 on the stack, nothing written that was there before, its room as the claim has it -/
theorem lw_ret {p : Program} {l : Launch} {e : Env} {s : State} {m : MethodId} {below : List Frame} {meth : Method} {c : Code} {b : Nat} (hx : p.tables.exec = Jvm.exec) (hb : c.code = code) (hr : meth.sig.returnType = ret) (hlocks : meth.locks = false) {pc : Nat} {H : Heap} {ls : Array Slot} (hdg : decode code pc = .ok (.ireturn, 1)) : W p l e room_1 s m #[Value.ref b] below meth c H [] 1200000 5502250 (lw_Z below #[Value.ref b] s) (F0 m pc ls [.int 1]) := by
  intro T hT X
  obtain ⟨fs, hret, hrun, hended, hW, hframe⟩ := X.leave (v := some (.int 1)) (hlocks := hlocks) (fun h => by rw [hr] at h; cases h)
  have hmeth' : T.vm.method? m = some meth := X.method'
  refine ⟨T.setFrames fs, ?_, .returned (some (.int 1)), hrun, hended, rfl, ⟨_, rfl⟩, hW, hframe⟩
  jvm_step X.here [X.here.top, hx, hb, hdg, hmeth', hr, ret, narrow_b1]
  (try refine ⟨rfl, ?_⟩); (try refine ⟨rfl, ?_⟩)
  first | (intro acts; rw [hret _ acts rfl rfl rfl]) | rw [hret _ _ rfl rfl rfl]
  exact Steps.refl _
/-- what holds at the law's entry: the machine, the code, the tables' words (any of lw_tbl by 'hts w (by decide +kernel)'), the script of L ints xs at the cell b, what the Statement gives of the start (any of its parts by flat_of_before) -/
def lw_At (p : Program) (s : State) (m : MethodId) (meth : Method) (c : Code) (b L : Nat) (xs : Nat → Int32) : Prop :=
  p.tables.exec = Jvm.exec ∧ c.code = code ∧ meth.sig.returnType = ret ∧ c.maxLocals = 17 ∧ s.vm.findClass R_law = some m.cls ∧ (∀ w ∈ lw_tbl, w.before #[Value.ref b] s = true) ∧ va_X b L xs s s.heap ∧ b < s.heap.size ∧ meth.locks = false ∧ (Jvm.Cond.and given_1 narrow_1).before #[Value.ref b] s = true
end
section
/-! ===== the law: its state, its rows, its room ===== -/
set_option maxRecDepth 100000
section DVX
variable {g : dv_P} {p : Program} {l : Launch} {e : Env} {R : Room} {s : State} {m : MethodId} {args : Array Value} {below : List Frame} {meth : Method} {c : Code} {h : dv_H} {k n : Nat} {Q : State → Prop}
variable {lk : Option Addr} {mr : Nat} {pc nL : Nat} {ls : List Slot} {st : List Value} {cc : ByteArray} {own : String}
/-- an int of the script -/
theorem dv_xald (cx : CallFix p m c cc nL s args lw_all own) (hK : dv_K g s) {b L i : Nat} {xs : Nat → Int32} {x : Int32} {ks : List ClassId} (hX : va_X b L xs s s.heap) (hb0 : b < dv_lo g) (hF : dv_fr (dv_lo g) ks (dv_ct s.heap) h) (hx' : x = nI i) (hi : i < L) (hn : L < 2 ^ 31) (hd : decode cc pc = .ok (.iaload, 1))
    (kk : dv_V (dv_lo g) p l e R s m args below meth c h k n Q (dv_G lk mr m (pc + 1) ls (.int (xs i) :: st))) : dv_V (dv_lo g) p l e R s m args below meth c h k n Q (dv_G lk mr m pc ls (.int x :: .ref b :: st)) := by
  obtain ⟨hx, hb, hml, hown, hts⟩ := cx
  obtain ⟨cell, z1, z2, z3, z4, z5⟩ := hX
  subst hx'
  have hcl : (nI i).toNatClampNeg = i := nI_clamp (by omega)
  intro H locs h1 h2 h3
  have hS := dv_vaS h1 h2 h3 hF hK.2.1
  refine W.iald (v := .int (xs i)) hx hb (by rw [hS.2.1 b (Array.getElem?_eq_some_iff.mp z1).1 (by omega)]; exact z1) z2 z3 ?_ (by rw [hcl]; exact z5 i hi) rfl rfl hd (kk H locs h1 h2 h3)
  rw [hcl]
  intro z
  rcases z with z | z
  · exact nI_pos (by omega) z
  · omega
theorem dv_xlen (cx : CallFix p m c cc nL s args lw_all own) (hK : dv_K g s) {b L : Nat} {xs : Nat → Int32} {ks : List ClassId} (hX : va_X b L xs s s.heap) (hb0 : b < dv_lo g) (hF : dv_fr (dv_lo g) ks (dv_ct s.heap) h) (hd : decode cc pc = .ok (.arraylength, 1))
    (kk : dv_V (dv_lo g) p l e R s m args below meth c h k n Q (dv_G lk mr m (pc + 1) ls (.int (nI L) :: st))) : dv_V (dv_lo g) p l e R s m args below meth c h k n Q (dv_G lk mr m pc ls (.ref b :: st)) := by
  obtain ⟨hx, hb, hml, hown, hts⟩ := cx
  obtain ⟨cell, z1, z2, z3, z4, z5⟩ := hX
  intro H locs h1 h2 h3
  have hS := dv_vaS h1 h2 h3 hF hK.2.1
  exact W.alen hx hb (by rw [hS.2.1 b (Array.getElem?_eq_some_iff.mp z1).1 (by omega)]; exact z1) z2 (by rw [z4]; rfl) rfl rfl hd (kk H locs h1 h2 h3)
end DVX
/-- the room used after o other operations, q puts, u sums -/
def dv_kc (o q u : Nat) : Nat := 8 + 4 * (o + q + u) + u * q
def dv_nc (o q u : Nat) : Nat := 15035 + 3077 * (o + q) + u * q + 8 * u
theorem dv_kn {o q u : Nat} (h : o + q + u ≤ 1667) : dv_kc o q u ≤ 1200000 ∧ dv_nc o q u ≤ 5502250 := by
  unfold dv_kc dv_nc
  have h1 : u * q ≤ u * 1667 := Nat.mul_le_mul (Nat.le_refl _) (by omega)
  refine ⟨?_, by omega⟩
  by_cases a : q ≤ 600
  · have h2 : u * q ≤ 1667 * 600 := Nat.mul_le_mul (by omega) a
    omega
  · by_cases b : u ≤ 600
    · have h2 : u * q ≤ 600 * 1667 := Nat.mul_le_mul b (by omega)
      omega
    · have h2 : u * q ≤ 1067 * 1067 := Nat.mul_le_mul (by omega) (by omega)
      omega
theorem dv_kcO (o q u : Nat) : dv_kc (o + 1) q u = dv_kc o q u + 4 ∧ dv_nc (o + 1) q u = dv_nc o q u + 3077 := by unfold dv_kc dv_nc; omega
theorem dv_kcQ (o q u : Nat) : dv_kc o q u + 4 ≤ dv_kc o (q + 1) u ∧ dv_nc o q u + 3077 ≤ dv_nc o (q + 1) u := by
  unfold dv_kc dv_nc
  have z : u * (q + 1) = u * q + u := Nat.mul_succ u q
  rw [z]
  omega
theorem dv_kcU (o q u : Nat) : dv_kc o q (u + 1) = dv_kc o q u + q + 4 ∧ dv_nc o q (u + 1) = dv_nc o q u + q + 8 := by
  unfold dv_kc dv_nc
  have z : (u + 1) * q = u * q + q := Nat.succ_mul u q
  rw [z]
  omega
/-- the constants of the law's walk -/
def dv_LC (g : dv_P) (s : State) (b L pa tb a2 a3 a4 : Nat) (xs : Nat → Int32) : Prop := dv_K g s ∧ dv_lo g = s.heap.size ∧ (dv_lo g ≤ pa ∧ dv_lo g ≤ tb) ∧ (dv_lo g ≤ a2 ∧ dv_lo g ≤ a3 ∧ dv_lo g ≤ a4) ∧ (a2 ≠ a3 ∧ a2 ≠ a4 ∧ a3 ≠ a4) ∧ L ≤ 5000 ∧ va_X b L xs s s.heap ∧ b < dv_lo g
abbrev dv_ia (g : dv_P) (L : Nat) (f : Nat → Int32) : Cell := arrV (dv_k g 12) L (fun j => .int (f j))
/-- the heap: the law's three arrays, the drill, its stack and its table -/
def dv_LH (g : dv_P) (s : State) (L d pa tb a2 a3 a4 : Nat) (f2 f3 f4 : Nat → Int32) (ps : List Int32) (kvs : List (Int32 × Int32)) (h : dv_H) : Prop :=
  dv_fr (dv_lo g) [] (dv_ct s.heap) h ∧ (h a2 = some (dv_ia g L f2) ∧ h a3 = some (dv_ia g L f3) ∧ h a4 = some (dv_ia g L f4)) ∧ dv_ob g h d 0 2 [.ref pa, .ref tb] ∧ dv_Ve g h pa ps ∧ dv_Ta g h tb kvs
/-- an array begins with xs -/
def dv_pf (f : Nat → Int32) (xs : List Int32) : Prop := ∀ (i : Nat) (x : Int32), xs[i]? = some x → f i = x
def dv_LI (g : dv_P) (s : State) (L d pa tb a2 a3 a4 : Nat) (ps : List Int32) (kvs : List (Int32 × Int32)) (h : dv_H) : Prop :=
  ∃ f2 f3 f4, dv_LH g s L d pa tb a2 a3 a4 f2 f3 f4 ps kvs h ∧ dv_pf f2 ps ∧ dv_pf f3 (kvs.map (·.1)) ∧ dv_pf f4 (kvs.map (·.2))
theorem dv_frL {g : dv_P} {s : State} {h h1 : dv_H} {ks : List ClassId} (hz : dv_lo g = s.heap.size) (hf : dv_fr (dv_lo g) [] (dv_ct s.heap) h) (h1f : dv_fr (dv_lo g) ks h h1) : dv_fr (dv_lo g) [] (dv_ct s.heap) h1 := by
  intro q x hx
  have hq : q < dv_lo g := by rw [hz]; exact dv_lt hx
  have e1 := hf.at hx (Or.inl hq)
  have e2 := h1f.at e1 (Or.inl hq)
  exact ⟨x, e2, rfl, rfl, fun _ => rfl⟩
section DVLH
variable {g : dv_P} {s : State} {b L d pa tb a2 a3 a4 : Nat} {xs f2 f3 f4 : Nat → Int32} {ps ps' : List Int32} {kvs kvs' : List (Int32 × Int32)} {h h1 : dv_H}
theorem dv_LH.mv {js : List Nat} (I : dv_LH g s L d pa tb a2 a3 a4 f2 f3 f4 ps kvs h) (C : dv_LC g s b L pa tb a2 a3 a4 xs) (hf : dv_fr (dv_lo g) (dv_kk g js) h h1) (hj : ([0, 12].all (fun i => js.all (fun j => decide (j ∈ dv_nos) && decide (i ≠ j)))) = true) (hV : dv_Ve g h1 pa ps') (hT : dv_Ta g h1 tb kvs') : dv_LH g s L d pa tb a2 a3 a4 f2 f3 f4 ps' kvs' h1 := by
  obtain ⟨i1, ⟨i2, i3, i4⟩, i5, i6, i7⟩ := I
  have ap := C.1.ap
  simp only [List.all_cons, List.all_nil, Bool.and_true, Bool.and_eq_true] at hj
  have n0 := dv_nin ap 0 (js := js) (by rw [Bool.and_eq_true]; exact ⟨by decide, hj.1⟩)
  have n12 := dv_nin ap 12 (js := js) (by rw [Bool.and_eq_true]; exact ⟨by decide, hj.2⟩)
  exact ⟨dv_frL C.2.1 i1 hf, ⟨hf.at i2 (Or.inr n12), hf.at i3 (Or.inr n12), hf.at i4 (Or.inr n12)⟩, i5.fr hf n0, hV, hT⟩
theorem dv_LH.w2 (I : dv_LH g s L d pa tb a2 a3 a4 f2 f3 f4 ps kvs h) (C : dv_LC g s b L pa tb a2 a3 a4 xs) (f : Nat → Int32) : dv_LH g s L d pa tb a2 a3 a4 f f3 f4 ps kvs (dv_up h a2 (dv_ia g L f)) := by
  obtain ⟨i1, ⟨i2, i3, i4⟩, i5, i6, i7⟩ := I
  obtain ⟨hK, c1, c2, c3, c4, c5⟩ := C
  have ap := hK.ap
  have hf : dv_fr (dv_lo g) (dv_kk g [12]) h (dv_up h a2 (dv_ia g L f)) := dv_fr.up i2 rfl rfl (dv_kin (i := 12) (by decide)) c3.1
  exact ⟨dv_frL c1 i1 hf, ⟨dv_up_self _ _ _, by rw [dv_up_ne (Ne.symm c4.1)]; exact i3, by rw [dv_up_ne (Ne.symm c4.2.1)]; exact i4⟩, i5.fr hf (dv_nin ap 0 (by decide)), i6.fr ap hf (by decide), i7.fr ap hf (by decide)⟩
theorem dv_LH.w3 (I : dv_LH g s L d pa tb a2 a3 a4 f2 f3 f4 ps kvs h) (C : dv_LC g s b L pa tb a2 a3 a4 xs) (f : Nat → Int32) : dv_LH g s L d pa tb a2 a3 a4 f2 f f4 ps kvs (dv_up h a3 (dv_ia g L f)) := by
  obtain ⟨i1, ⟨i2, i3, i4⟩, i5, i6, i7⟩ := I
  obtain ⟨hK, c1, c2, c3, c4, c5⟩ := C
  have ap := hK.ap
  have hf : dv_fr (dv_lo g) (dv_kk g [12]) h (dv_up h a3 (dv_ia g L f)) := dv_fr.up i3 rfl rfl (dv_kin (i := 12) (by decide)) c3.2.1
  exact ⟨dv_frL c1 i1 hf, ⟨by rw [dv_up_ne c4.1]; exact i2, dv_up_self _ _ _, by rw [dv_up_ne (Ne.symm c4.2.2)]; exact i4⟩, i5.fr hf (dv_nin ap 0 (by decide)), i6.fr ap hf (by decide), i7.fr ap hf (by decide)⟩
theorem dv_LH.w4 (I : dv_LH g s L d pa tb a2 a3 a4 f2 f3 f4 ps kvs h) (C : dv_LC g s b L pa tb a2 a3 a4 xs) (f : Nat → Int32) : dv_LH g s L d pa tb a2 a3 a4 f2 f3 f ps kvs (dv_up h a4 (dv_ia g L f)) := by
  obtain ⟨i1, ⟨i2, i3, i4⟩, i5, i6, i7⟩ := I
  obtain ⟨hK, c1, c2, c3, c4, c5⟩ := C
  have ap := hK.ap
  have hf : dv_fr (dv_lo g) (dv_kk g [12]) h (dv_up h a4 (dv_ia g L f)) := dv_fr.up i4 rfl rfl (dv_kin (i := 12) (by decide)) c3.2.2
  exact ⟨dv_frL c1 i1 hf, ⟨by rw [dv_up_ne c4.2.1]; exact i2, by rw [dv_up_ne c4.2.2]; exact i3, dv_up_self _ _ _⟩, i5.fr hf (dv_nin ap 0 (by decide)), i6.fr ap hf (by decide), i7.fr ap hf (by decide)⟩
theorem dv_LH.mp (I : dv_LH g s L d pa tb a2 a3 a4 f2 f3 f4 ps kvs h) (C : dv_LC g s b L pa tb a2 a3 a4 xs) : ∀ a ∈ [pa], dv_en (dv_cu g) a s.heap ∨ (s.heap.size ≤ a ∧ ∃ x, h a = some x) := by
  intro a ha
  rw [List.mem_singleton.mp ha]
  obtain ⟨ea, q, f, w, ⟨⟨x, hx, -⟩, -⟩, -⟩ := I.2.2.2.1
  exact Or.inr ⟨by rw [← C.2.1]; exact C.2.2.1.1, x, hx⟩
theorem dv_LH.mt (I : dv_LH g s L d pa tb a2 a3 a4 f2 f3 f4 ps kvs h) (C : dv_LC g s b L pa tb a2 a3 a4 xs) : ∀ a ∈ [tb], dv_en (dv_cu g) a s.heap ∨ (s.heap.size ≤ a ∧ ∃ x, h a = some x) := by
  intro a ha
  rw [List.mem_singleton.mp ha]
  obtain ⟨ea, q, f, w, ⟨⟨x, hx, -⟩, -⟩, -⟩ := I.2.2.2.2
  exact Or.inr ⟨by rw [← C.2.1]; exact C.2.2.1.2, x, hx⟩
theorem dv_LH.rc (I : dv_LH g s L d pa tb a2 a3 a4 f2 f3 f4 ps kvs h) (C : dv_LC g s b L pa tb a2 a3 a4 xs) : dv_rc s h d RX0 := I.2.2.1.rc C.1 rfl
end DVLH
/-- the law's frame -/
abbrev dv_LF (m : MethodId) (pc b d a2 a3 a4 : Nat) (n mm i : Int32) (r : List Slot) (st : List Value) : JFrame := dv_G none 0 m pc (.val (.ref b) :: .val (.ref d) :: .val (.ref a2) :: .val (.ref a3) :: .val (.ref a4) :: .val (.int n) :: .val (.int mm) :: .val (.int i) :: r) st
abbrev dv_LV (g : dv_P) (p : Program) (l : Launch) (e : Env) (s : State) (m : MethodId) (below : List Frame) (meth : Method) (c : Code) (b : Nat) (h : dv_H) (k n : Nat) (f : JFrame) : Prop := dv_V (dv_lo g) p l e room_1 s m #[Value.ref b] below meth c h k n (lw_Z below #[Value.ref b] s) f
abbrev dv_7 (x8 x9 x10 x11 x12 x13 x14 : Int32) (t15 t16 : Slot) : List Slot := [.val (.int x8), .val (.int x9), .val (.int x10), .val (.int x11), .val (.int x12), .val (.int x13), .val (.int x14), t15, t16]
/-- how an operation ends: at 886, its t and one operations done -/
def dv_Bk (g : dv_P) (p : Program) (l : Launch) (e : Env) (s : State) (m : MethodId) (below : List Frame) (meth : Method) (c : Code) (b L d pa tb a2 a3 a4 t : Nat) : Prop :=
  ∀ (o q u : Nat) (ps : List Int32) (kvs : List (Int32 × Int32)) (h : dv_H) (x8 x9 x10 x11 x12 x13 x14 : Int32) (t15 t16 : Slot), o + q + u = t + 1 → dv_c1 (some t15) = true → dv_c1 (some t16) = true → ps.length ≤ t + 1 → kvs.length ≤ q → dv_LI g s L d pa tb a2 a3 a4 ps kvs h →
    dv_LV g p l e s m below meth c b h (dv_kc o q u) (dv_nc o q u) (dv_LF m 886 b d a2 a3 a4 (nI ps.length) (nI kvs.length) (nI (3 * t)) (dv_7 x8 x9 x10 x11 x12 x13 x14 t15 t16) [])
theorem dv_pf.snoc {f : Nat → Int32} {xs : List Int32} (h : dv_pf f xs) (x : Int32) : dv_pf (upd f xs.length x) (xs ++ [x]) := by
  intro i y hy
  rcases Nat.lt_trichotomy i xs.length with z | z | z
  · rw [List.getElem?_append_left z] at hy
    rw [pk_un (by omega)]
    exact h i y hy
  · subst z
    rw [List.getElem?_concat_length] at hy
    rw [pk_us]
    exact Option.some.inj hy
  · rw [List.getElem?_eq_none_iff.mpr (by rw [List.length_append, List.length_singleton]; omega)] at hy
    cases hy
end
section
/-! ===== the law: the operations on the stack ===== -/
set_option maxRecDepth 100000
theorem dv_p1 : Int32.ofInt 1 = 1 := by decide
theorem dv_prd {n : Nat} (h : 0 < n) : nI n - 1 = nI (n - 1) := by
  have z := nI_pred (n - 1)
  rw [show n - 1 + 1 = n by omega] at z
  exact z
theorem dv_pf.ers {f f' : Nat → Int32} {xs : List Int32} {i : Nat} (h : dv_pf f xs) (hi : i < xs.length) (hf : ∀ j, j + 1 < xs.length → f' j = if i ≤ j then f (j + 1) else f j) : dv_pf f' (xs.eraseIdx i) := by
  intro j y hy
  rw [List.getElem?_eraseIdx] at hy
  by_cases z : j < i
  · rw [if_pos z] at hy
    rw [hf j (by omega), if_neg (by omega)]
    exact h j y hy
  · rw [if_neg z] at hy
    have hj : j + 1 < xs.length := (List.getElem?_eq_some_iff.mp hy).1
    rw [hf j hj, if_pos (by omega)]
    exact h _ _ hy
theorem dv_pf.ins {f f' : Nat → Int32} {xs : List Int32} {i : Nat} {x : Int32} (h : dv_pf f xs) (hi : i ≤ xs.length) (hf : ∀ j, j ≤ xs.length → f' j = if i < j then f (j - 1) else f j) : dv_pf (upd f' i x) (xs.insertIdx i x) := by
  intro j y hy
  rw [List.getElem?_insertIdx] at hy
  by_cases z : j < i
  · rw [if_pos z] at hy
    rw [pk_un (by omega), hf j (by omega), if_neg (by omega)]
    exact h j y hy
  · rw [if_neg z] at hy
    by_cases z2 : j = i
    · rw [if_pos z2, if_pos (by omega)] at hy
      rw [z2, pk_us]
      exact Option.some.inj hy
    · rw [if_neg z2] at hy
      have hj : j - 1 < xs.length := (List.getElem?_eq_some_iff.mp hy).1
      rw [pk_un z2, hf j (by omega), if_pos (by omega)]
      exact h _ _ hy
section DVS
variable {g : dv_P} {p : Program} {l : Launch} {e : Env} {s : State} {m : MethodId} {below : List Frame} {meth : Method} {c : Code} {b L d pa tb a2 a3 a4 : Nat} {xs f2 f3 f4 : Nat → Int32} {ps : List Int32} {kvs : List (Int32 × Int32)} {h : dv_H} {o q u t pp kk : Nat} {w v k a no : Int32} {t15 t16 : Slot}
/-- push -/
theorem dv_op_push (cx : CallFix p m c code 17 s #[Value.ref b] lw_all "LegacyDrillLaw") (C : dv_LC g s b L pa tb a2 a3 a4 xs) (hoqu : o + q + u = t) (ht : 3 * t + 3 ≤ L) (hps : ps.length ≤ t) (hkv : kvs.length ≤ q) (I : dv_LH g s L d pa tb a2 a3 a4 f2 f3 f4 ps kvs h) (p2 : dv_pf f2 ps) (p3 : dv_pf f3 (kvs.map (·.1))) (p4 : dv_pf f4 (kvs.map (·.2))) (B : dv_Bk g p l e s m below meth c b L d pa tb a2 a3 a4 t) (c15 : dv_c1 (some t15) = true) (c16 : dv_c1 (some t16) = true) : dv_LV g p l e s m below meth c b h (dv_kc o q u) (dv_nc o q u) (dv_LF m 292 b d a2 a3 a4 (nI ps.length) (nI kvs.length) (nI (3 * t)) (dv_7 w v k a (nI pp) no (nI kk - 1) t15 t16) []) := by
  have hK := C.1
  have ap := hK.ap
  have hL := C.2.2.2.2.2.1
  have K1 := dv_kcO o q u
  have K2 := dv_kn (o := o + 1) (q := q) (u := u) (by omega)
  refine dv_aload_n (pc := 292) cx dL_law_292 rfl rfl rfl ?_
  refine dv_iload (pc := 293) cx dL_law_293 rfl ?_
  refine dv_cV (C := RX0) (rest := []) (av := [.int a]) cx hK (mt_x_push l g d pa tb ps a (by omega) C.2.2.1.1) q129 q130 q131 q6 q132 (n9 := 1) ⟨by decide, by decide, by decide +kernel⟩ rfl (I.rc C) ⟨⟨_, I.1⟩, I.mp C, ⟨I.2.2.1, I.2.2.2.1⟩, (by show dv_kc o q u + 2 ≤ 1200000; omega), (by show dv_nc o q u + 2561 ≤ 5502250; omega)⟩ ⟨⟨Nat.le_of_ble_eq_true rfl, Nat.le_of_ble_eq_true rfl⟩, Nat.le_of_ble_eq_true rfl⟩ rfl rfl dL_law_295 (fun v h1 hS hf => ?_)
  obtain ⟨rfl, hV⟩ := hS
  have I1 := I.mv C hf (by decide) hV (I.2.2.2.2.fr ap hf (by decide))
  refine dv_iload (pc := 298) cx dL_law_298 rfl ?_
  refine dv_icmp_eq (tgt := 305) cx dL_law_300 (by decide) (fun _ => ?_) (fun z => absurd rfl z)
  refine dv_aload_n (pc := 305) cx dL_law_305 rfl rfl rfl ?_
  refine dv_iload (pc := 306) cx dL_law_306 rfl ?_
  refine dv_iinc (v := nI (ps.length + 1)) cx dL_law_308 rfl (by rw [dv_p1, nI_1]) ?_
  refine dv_iload (pc := 311) cx dL_law_311 rfl ?_
  refine dv_iast (i := ps.length) cx hK I1.2.1.1 C.2.2.2.1.1 rfl (by omega) (by omega) dL_law_313 ?_
  refine dv_goto (pc := 314) (tgt := 886) cx dL_law_314 (by decide) ?_
  refine dv_widen (k' := dv_kc (o + 1) q u) (n' := dv_nc (o + 1) q u) (by omega) (by omega) ?_
  have Z := B (o + 1) q u (ps ++ [a]) kvs _ w v k a (nI pp) no (nI kk - 1) t15 t16 (by omega) c15 c16 (by rw [List.length_append, List.length_singleton]; omega) hkv ⟨_, _, _, I1.w2 C _, p2.snoc a, p3, p4⟩
  rw [List.length_append] at Z
  exact Z
/-- nothing has changed -/
theorem dv_op_same (cx : CallFix p m c code 17 s #[Value.ref b] lw_all "LegacyDrillLaw") (C : dv_LC g s b L pa tb a2 a3 a4 xs) (hoqu : o + q + u = t) (ht : 3 * t + 3 ≤ L) (hps : ps.length ≤ t) (hkv : kvs.length ≤ q) (I : dv_LH g s L d pa tb a2 a3 a4 f2 f3 f4 ps kvs h) (p2 : dv_pf f2 ps) (p3 : dv_pf f3 (kvs.map (·.1))) (p4 : dv_pf f4 (kvs.map (·.2))) (B : dv_Bk g p l e s m below meth c b L d pa tb a2 a3 a4 t) (c15 : dv_c1 (some t15) = true) (c16 : dv_c1 (some t16) = true) {x8 x9 x10 x11 x12 x13 x14 : Int32} {k0 n0 : Nat} (hk : k0 ≤ dv_kc o q u + 4) (hn : n0 ≤ dv_nc o q u + 3077) : dv_LV g p l e s m below meth c b h k0 n0 (dv_LF m 886 b d a2 a3 a4 (nI ps.length) (nI kvs.length) (nI (3 * t)) (dv_7 x8 x9 x10 x11 x12 x13 x14 t15 t16) []) := by
  have K1 := dv_kcO o q u
  refine dv_widen (k' := dv_kc (o + 1) q u) (n' := dv_nc (o + 1) q u) (by omega) (by omega) ?_
  exact B (o + 1) q u ps kvs h x8 x9 x10 x11 x12 x13 x14 t15 t16 (by omega) c15 c16 (by omega) hkv ⟨f2, f3, f4, I, p2, p3, p4⟩
/-- empty, peek, pop -/
theorem dv_op_pop (cx : CallFix p m c code 17 s #[Value.ref b] lw_all "LegacyDrillLaw") (C : dv_LC g s b L pa tb a2 a3 a4 xs) (hoqu : o + q + u = t) (ht : 3 * t + 3 ≤ L) (hps : ps.length ≤ t) (hkv : kvs.length ≤ q) (I : dv_LH g s L d pa tb a2 a3 a4 f2 f3 f4 ps kvs h) (p2 : dv_pf f2 ps) (p3 : dv_pf f3 (kvs.map (·.1))) (p4 : dv_pf f4 (kvs.map (·.2))) (B : dv_Bk g p l e s m below meth c b L d pa tb a2 a3 a4 t) (c15 : dv_c1 (some t15) = true) (c16 : dv_c1 (some t16) = true) : dv_LV g p l e s m below meth c b h (dv_kc o q u) (dv_nc o q u) (dv_LF m 317 b d a2 a3 a4 (nI ps.length) (nI kvs.length) (nI (3 * t)) (dv_7 w v k a (nI pp) no (nI kk - 1) t15 t16) []) := by
  have hK := C.1
  have ap := hK.ap
  have hL := C.2.2.2.2.2.1
  have K1 := dv_kcO o q u
  have K2 := dv_kn (o := o + 1) (q := q) (u := u) (by omega)
  refine dv_aload_n (pc := 317) cx dL_law_317 rfl rfl rfl ?_
  refine dv_cV (C := RX0) (rest := []) (av := []) cx hK (mt_x_empty l g d pa tb ps (by omega) C.2.2.1.1) q257 q258 q259 q6 q260 (n9 := 0) ⟨by decide, by decide, by decide +kernel⟩ rfl (I.rc C) ⟨⟨_, I.1⟩, I.mp C, ⟨I.2.2.1, I.2.2.2.1⟩, (by show dv_kc o q u + 0 ≤ 1200000; omega), (by show dv_nc o q u + 0 ≤ 5502250; omega)⟩ ⟨⟨Nat.le_of_ble_eq_true rfl, Nat.le_of_ble_eq_true rfl⟩, Nat.le_of_ble_eq_true rfl⟩ rfl rfl dL_law_318 (fun v h1 hS hf => ?_)
  obtain ⟨rfl, rfl⟩ := hS
  rcases Nat.eq_zero_or_pos ps.length with hz | hz
  · rw [if_pos hz]
    refine dv_iload (pc := 321) cx dL_law_321 rfl ?_
    refine dv_if_ne (tgt := 330) cx dL_law_323 (by decide) (fun z => absurd (by rw [hz]; rfl) z) (fun _ => ?_)
    refine dv_iconst (pc := 326) (v := 1) cx dL_law_326 (by decide) ?_
    refine dv_goto (pc := 327) (tgt := 331) cx dL_law_327 (by decide) ?_
    refine dv_icmp_eq (tgt := 336) cx dL_law_331 (by decide) (fun _ => ?_) (fun z => absurd rfl z)
    refine dv_iload (pc := 336) cx dL_law_336 rfl ?_
    refine dv_if_le (tgt := 886) cx dL_law_338 (by decide) (fun _ => ?_) (fun z => absurd (by rw [hz]; decide) z)
    exact dv_op_same cx C hoqu ht hps hkv I p2 p3 p4 B c15 c16 (by omega) (by omega)
  · rw [if_neg (by omega)]
    refine dv_iload (pc := 321) cx dL_law_321 rfl ?_
    refine dv_if_ne (tgt := 330) cx dL_law_323 (by decide) (fun _ => ?_) (fun z => absurd z (nI_ne0 hz (by omega)))
    refine dv_iconst (pc := 330) (v := 0) cx dL_law_330 (by decide) ?_
    refine dv_icmp_eq (tgt := 336) cx dL_law_331 (by decide) (fun _ => ?_) (fun z => absurd rfl z)
    refine dv_iload (pc := 336) cx dL_law_336 rfl ?_
    refine dv_if_le (tgt := 886) cx dL_law_338 (by decide) (fun z => absurd z (nI_nle hz (by omega))) (fun _ => ?_)
    obtain ⟨x, hx⟩ : ∃ x, ps[ps.length - 1]? = some x := ⟨_, List.getElem?_eq_getElem (by omega)⟩
    refine dv_aload_n (pc := 341) cx dL_law_341 rfl rfl rfl ?_
    refine dv_cV (C := RX0) (rest := []) (av := []) cx hK (mt_x_peek l g d pa tb ps x (by omega) hz hx C.2.2.1.1) q252 q253 q254 q6 q255 (n9 := 0) ⟨by decide, by decide, by decide +kernel⟩ rfl (I.rc C) ⟨⟨_, I.1⟩, I.mp C, ⟨I.2.2.1, I.2.2.2.1⟩, (by show dv_kc o q u + 0 + 0 ≤ 1200000; omega), (by show dv_nc o q u + 0 + 0 ≤ 5502250; omega)⟩ ⟨⟨Nat.le_of_ble_eq_true rfl, Nat.le_of_ble_eq_true rfl⟩, Nat.le_of_ble_eq_true rfl⟩ rfl rfl dL_law_342 (fun v h1 hS hf => ?_)
    obtain ⟨rfl, rfl⟩ := hS
    refine dv_aload_n (pc := 345) cx dL_law_345 rfl rfl rfl ?_
    refine dv_iload (pc := 346) cx dL_law_346 rfl ?_
    refine dv_iconst (pc := 348) (v := 1) cx dL_law_348 (by decide) ?_
    refine dv_isub (v := nI (ps.length - 1)) cx dL_law_349 (dv_prd hz) ?_
    refine dv_iald (i := ps.length - 1) (v := x) cx hK I.2.1.1 rfl (by omega) (by omega) (p2 _ _ hx) dL_law_350 ?_
    refine dv_icmp_ne (tgt := 368) cx dL_law_351 (by decide) (fun z => absurd rfl z) (fun _ => ?_)
    refine dv_aload_n (pc := 354) cx dL_law_354 rfl rfl rfl ?_
    refine dv_cV (C := RX0) (rest := []) (av := []) cx hK (mt_x_pop l g d pa tb ps x (by omega) hz hx C.2.2.1.1) q216 q217 q218 q6 q219 (n9 := 0) ⟨by decide, by decide, by decide +kernel⟩ rfl (I.rc C) ⟨⟨_, I.1⟩, I.mp C, ⟨I.2.2.1, I.2.2.2.1⟩, (by show dv_kc o q u + 0 + 0 + 0 ≤ 1200000; omega), (by show dv_nc o q u + 0 + 0 + 0 ≤ 5502250; omega)⟩ ⟨⟨Nat.le_of_ble_eq_true rfl, Nat.le_of_ble_eq_true rfl⟩, Nat.le_of_ble_eq_true rfl⟩ rfl rfl dL_law_355 (fun v h1 hS hf => ?_)
    obtain ⟨rfl, hV⟩ := hS
    have I1 := I.mv C hf (by decide) hV (I.2.2.2.2.fr ap hf (by decide))
    refine dv_aload_n (pc := 358) cx dL_law_358 rfl rfl rfl ?_
    refine dv_iinc (v := nI (ps.length - 1)) cx dL_law_359 rfl (by rw [dv_m1]; exact dv_prd hz) ?_
    refine dv_iload (pc := 362) cx dL_law_362 rfl ?_
    refine dv_iald (i := ps.length - 1) (v := x) cx hK I1.2.1.1 rfl (by omega) (by omega) (p2 _ _ hx) dL_law_364 ?_
    refine dv_icmp_eq (tgt := 886) cx dL_law_365 (by decide) (fun _ => ?_) (fun z => absurd rfl z)
    have el : (ps.eraseIdx (ps.length - 1)).length = ps.length - 1 := List.length_eraseIdx_of_lt (by omega)
    have Z := dv_op_same cx C hoqu ht (by rw [el]; omega) hkv I1 (p2.ers (by omega) (fun j hj => by rw [if_neg (by omega)])) p3 p4 B c15 c16 (x8 := w) (x9 := v) (x10 := k) (x11 := a) (x12 := nI pp) (x13 := no) (x14 := nI kk - 1) (k0 := dv_kc o q u) (n0 := dv_nc o q u) (by omega) (by omega)
    rw [el] at Z
    exact Z
/-- search -/
theorem dv_op_search (cx : CallFix p m c code 17 s #[Value.ref b] lw_all "LegacyDrillLaw") (C : dv_LC g s b L pa tb a2 a3 a4 xs) (hoqu : o + q + u = t) (ht : 3 * t + 3 ≤ L) (hps : ps.length ≤ t) (hkv : kvs.length ≤ q) (I : dv_LH g s L d pa tb a2 a3 a4 f2 f3 f4 ps kvs h) (p2 : dv_pf f2 ps) (p3 : dv_pf f3 (kvs.map (·.1))) (p4 : dv_pf f4 (kvs.map (·.2))) (B : dv_Bk g p l e s m below meth c b L d pa tb a2 a3 a4 t) (c15 : dv_c1 (some t15) = true) (c16 : dv_c1 (some t16) = true) : dv_LV g p l e s m below meth c b h (dv_kc o q u) (dv_nc o q u) (dv_LF m 370 b d a2 a3 a4 (nI ps.length) (nI kvs.length) (nI (3 * t)) (dv_7 w v k a (nI pp) no (nI kk - 1) t15 t16) []) := by
  have hK := C.1
  have ap := hK.ap
  have hL := C.2.2.2.2.2.1
  have K1 := dv_kcO o q u
  have K2 := dv_kn (o := o + 1) (q := q) (u := u) (by omega)
  have out : ∀ j, dv_lst a ps j → dv_LV g p l e s m below meth c b h (dv_kc o q u) (dv_nc o q u) (dv_LF m 396 b d a2 a3 a4 (nI ps.length) (nI kvs.length) (nI (3 * t)) (dv_7 w v k a (nI pp) no (nI kk - 1) (.val (.int (nI j - 1))) t16) []) := by
    intro j hj
    have hjl := hj.1
    refine dv_aload_n (pc := 396) cx dL_law_396 rfl rfl rfl ?_
    refine dv_iload (pc := 397) cx dL_law_397 rfl ?_
    refine dv_cV (C := RX0) (rest := []) (av := [.int a]) cx hK (mt_x_search l g d pa tb ps a (by omega) C.2.2.1.1) q265 q266 q267 q6 q268 (n9 := 1) ⟨by decide, by decide, by decide +kernel⟩ rfl (I.rc C) ⟨⟨_, I.1⟩, I.mp C, ⟨I.2.2.1, I.2.2.2.1⟩, (by show dv_kc o q u + 1 ≤ 1200000; omega), (by show dv_nc o q u + 1 ≤ 5502250; omega)⟩ ⟨⟨Nat.le_of_ble_eq_true rfl, Nat.le_of_ble_eq_true rfl⟩, Nat.le_of_ble_eq_true rfl⟩ rfl rfl dL_law_399 (fun v h1 hS hf => ?_)
    obtain ⟨j', hj', rfl⟩ := hS
    have ej := hj.uniq hj'
    subst ej
    have I1 := I.mv (js := []) C hf (by decide) (I.2.2.2.1.fr (js := []) ap hf (by decide)) (I.2.2.2.2.fr (js := []) ap hf (by decide))
    rcases Nat.eq_zero_or_pos j with hz | hz
    · subst hz
      rw [if_pos rfl]
      refine dv_iload (pc := 402) cx dL_law_402 rfl ?_
      refine dv_if_ge (tgt := 411) cx dL_law_404 (by decide) (fun z => absurd z (by decide)) (fun _ => ?_)
      refine dv_iconst (pc := 407) (v := (-1)) cx dL_law_407 (by decide) ?_
      refine dv_goto (pc := 408) (tgt := 416) cx dL_law_408 (by decide) ?_
      refine dv_icmp_eq (tgt := 886) cx dL_law_416 (by decide) (fun _ => ?_) (fun z => absurd rfl z)
      exact dv_op_same cx C hoqu ht hps hkv I1 p2 p3 p4 B rfl c16 (by omega) (by omega)
    · rw [if_neg (by omega), dv_prd hz]
      refine dv_iload (pc := 402) cx dL_law_402 rfl ?_
      refine dv_if_ge (tgt := 411) cx dL_law_404 (by decide) (fun _ => ?_) (fun z => absurd (nI_pos' (by omega)) z)
      refine dv_iload (pc := 411) cx dL_law_411 rfl ?_
      refine dv_iload (pc := 413) cx dL_law_413 rfl ?_
      refine dv_isub (v := nI (ps.length - (j - 1))) cx dL_law_415 (pk_sub (by omega)) ?_
      refine dv_icmp_eq (tgt := 886) cx dL_law_416 (by decide) (fun _ => ?_) (fun z => absurd rfl z)
      exact dv_op_same cx C hoqu ht hps hkv I1 p2 p3 p4 B rfl c16 (by omega) (by omega)
  have loop : ∀ j, j ≤ ps.length → (∀ i, j ≤ i → i < ps.length → ps[i]? ≠ some a) → dv_LV g p l e s m below meth c b h (dv_kc o q u) (dv_nc o q u) (dv_LF m 376 b d a2 a3 a4 (nI ps.length) (nI kvs.length) (nI (3 * t)) (dv_7 w v k a (nI pp) no (nI kk - 1) (.val (.int (nI j - 1))) t16) []) := by
    intro j
    induction j with
    | zero =>
      intro hj hno
      refine dv_iload (pc := 376) cx dL_law_376 rfl ?_
      refine dv_if_lt (tgt := 396) cx dL_law_378 (by decide) (fun _ => ?_) (fun z => absurd (by decide) z)
      exact out 0 ⟨hj, hno, fun z => absurd z (by omega)⟩
    | succ j ih =>
      intro hj hno
      obtain ⟨x, hx⟩ : ∃ x, ps[j]? = some x := ⟨_, List.getElem?_eq_getElem (by omega)⟩
      have Y := out (j + 1)
      rw [nI_pred] at Y ⊢
      refine dv_iload (pc := 376) cx dL_law_376 rfl ?_
      refine dv_if_lt (tgt := 396) cx dL_law_378 (by decide) (fun z => absurd z (nI_pos (by omega))) (fun _ => ?_)
      refine dv_aload_n (pc := 381) cx dL_law_381 rfl rfl rfl ?_
      refine dv_iload (pc := 382) cx dL_law_382 rfl ?_
      refine dv_iald (i := j) (v := x) cx hK I.2.1.1 rfl (by omega) (by omega) (p2 _ _ hx) dL_law_384 ?_
      refine dv_iload (pc := 385) cx dL_law_385 rfl ?_
      refine dv_icmp_eq (tgt := 396) cx dL_law_387 (by decide) (fun z => ?_) (fun z => ?_)
      · exact Y ⟨hj, hno, fun _ => by rw [Nat.add_sub_cancel, hx, z]⟩
      · refine dv_iinc (v := nI j - 1) cx dL_law_390 rfl (by rw [dv_m1]) ?_
        refine dv_goto (pc := 393) (tgt := 376) cx dL_law_393 (by decide) ?_
        refine ih (by omega) (fun i h1 h2 => ?_)
        by_cases ei : i = j
        · rw [ei, hx]; exact fun e => z (Option.some.inj e)
        · exact hno i (by omega) h2
  refine dv_iload (pc := 370) cx dL_law_370 rfl ?_
  refine dv_iconst (pc := 372) (v := 1) cx dL_law_372 (by decide) ?_
  refine dv_isub (pc := 373) cx dL_law_373 rfl ?_
  refine dv_istore (pc := 374) cx dL_law_374 c15 ?_
  exact loop ps.length (Nat.le_refl _) (fun i h1 h2 => absurd h2 (by omega))
/-- insert -/
theorem dv_op_insert (cx : CallFix p m c code 17 s #[Value.ref b] lw_all "LegacyDrillLaw") (C : dv_LC g s b L pa tb a2 a3 a4 xs) (hoqu : o + q + u = t) (ht : 3 * t + 3 ≤ L) (hps : ps.length ≤ t) (hkv : kvs.length ≤ q) (I : dv_LH g s L d pa tb a2 a3 a4 f2 f3 f4 ps kvs h) (p2 : dv_pf f2 ps) (p3 : dv_pf f3 (kvs.map (·.1))) (p4 : dv_pf f4 (kvs.map (·.2))) (B : dv_Bk g p l e s m below meth c b L d pa tb a2 a3 a4 t) (c15 : dv_c1 (some t15) = true) (c16 : dv_c1 (some t16) = true) (hpp : pp ≤ ps.length) : dv_LV g p l e s m below meth c b h (dv_kc o q u) (dv_nc o q u) (dv_LF m 421 b d a2 a3 a4 (nI ps.length) (nI kvs.length) (nI (3 * t)) (dv_7 w v k a (nI pp) no (nI kk - 1) t15 t16) []) := by
  have hK := C.1
  have ap := hK.ap
  have hL := C.2.2.2.2.2.1
  have K1 := dv_kcO o q u
  have K2 := dv_kn (o := o + 1) (q := q) (u := u) (by omega)
  refine dv_aload_n (pc := 421) cx dL_law_421 rfl rfl rfl ?_
  refine dv_iload (pc := 422) cx dL_law_422 rfl ?_
  refine dv_iload (pc := 424) cx dL_law_424 rfl ?_
  refine dv_cV (C := RX0) (rest := []) (av := [.int a, .int (nI pp)]) cx hK (mt_x_insert l g d pa tb pp ps a (by omega) hpp C.2.2.1.1) q294 q295 q296 q6 q297 (n9 := 2) ⟨by decide, by decide, by decide +kernel⟩ rfl (I.rc C) ⟨⟨_, I.1⟩, I.mp C, ⟨I.2.2.1, I.2.2.2.1⟩, (by show dv_kc o q u + 2 ≤ 1200000; omega), (by show dv_nc o q u + 2561 ≤ 5502250; omega)⟩ ⟨⟨Nat.le_of_ble_eq_true rfl, Nat.le_of_ble_eq_true rfl⟩, Nat.le_of_ble_eq_true rfl⟩ rfl rfl dL_law_426 (fun v h1 hS hf => ?_)
  obtain ⟨rfl, hV⟩ := hS
  have I1 := I.mv C hf (by decide) hV (I.2.2.2.2.fr ap hf (by decide))
  have el : (ps.insertIdx pp a).length = ps.length + 1 := List.length_insertIdx_of_le_length hpp a
  refine dv_iload (pc := 429) cx dL_law_429 rfl ?_
  refine dv_iinc (v := nI (ps.length + 1)) cx dL_law_431 rfl (by rw [dv_p1, nI_1]) ?_
  refine dv_istore (pc := 434) cx dL_law_434 c15 ?_
  have loop : ∀ r j, j = pp + r → j ≤ ps.length → ∀ (f : Nat → Int32) (h : dv_H), dv_LH g s L d pa tb a2 a3 a4 f f3 f4 (ps.insertIdx pp a) kvs h → (∀ i, i ≤ ps.length → f i = if j < i then f2 (i - 1) else f2 i) →
      dv_LV g p l e s m below meth c b h (dv_kc o q u + 2) (dv_nc o q u + 2561) (dv_LF m 436 b d a2 a3 a4 (nI (ps.length + 1)) (nI kvs.length) (nI (3 * t)) (dv_7 w v k a (nI pp) no (nI kk - 1) (.val (.int (nI j))) t16) []) := by
    intro r
    induction r with
    | zero =>
      intro j hj hjl f h I hf
      refine dv_iload (pc := 436) cx dL_law_436 rfl ?_
      refine dv_iload (pc := 438) cx dL_law_438 rfl ?_
      refine dv_icmp_le (tgt := 459) cx dL_law_440 (by decide) (fun _ => ?_) (fun z => absurd (nI_le (by omega) (by omega)) z)
      refine dv_aload_n (pc := 459) cx dL_law_459 rfl rfl rfl ?_
      refine dv_iload (pc := 460) cx dL_law_460 rfl ?_
      refine dv_iload (pc := 462) cx dL_law_462 rfl ?_
      refine dv_iast (i := pp) cx hK I.2.1.1 C.2.2.2.1.1 rfl (by omega) (by omega) dL_law_464 ?_
      refine dv_goto (pc := 465) (tgt := 886) cx dL_law_465 (by decide) ?_
      have Z := B (o + 1) q u (ps.insertIdx pp a) kvs _ w v k a (nI pp) no (nI kk - 1) (.val (.int (nI j))) t16 (by omega) rfl c16 (by rw [el]; omega) hkv ⟨_, _, _, I.w2 C _, p2.ins (f' := f) hpp (fun i hi => by rw [hf i hi, hj, Nat.add_zero]), p3, p4⟩
      rw [el] at Z
      exact dv_widen (by omega) (by omega) Z
    | succ r ih =>
      intro j hj hjl f h I hf
      refine dv_iload (pc := 436) cx dL_law_436 rfl ?_
      refine dv_iload (pc := 438) cx dL_law_438 rfl ?_
      refine dv_icmp_le (tgt := 459) cx dL_law_440 (by decide) (fun z => absurd ((nI_leI (by omega) (by omega)).mp z) (by omega)) (fun _ => ?_)
      refine dv_aload_n (pc := 443) cx dL_law_443 rfl rfl rfl ?_
      refine dv_iload (pc := 444) cx dL_law_444 rfl ?_
      refine dv_aload_n (pc := 446) cx dL_law_446 rfl rfl rfl ?_
      refine dv_iload (pc := 447) cx dL_law_447 rfl ?_
      refine dv_iconst (pc := 449) (v := 1) cx dL_law_449 (by decide) ?_
      refine dv_isub (v := nI (j - 1)) cx dL_law_450 (dv_prd (by omega)) ?_
      refine dv_iald (i := j - 1) (v := f2 (j - 1)) cx hK I.2.1.1 rfl (by omega) (by omega) (by rw [hf _ (by omega), if_neg (by omega)]) dL_law_451 ?_
      refine dv_iast (i := j) cx hK I.2.1.1 C.2.2.2.1.1 rfl (by omega) (by omega) dL_law_452 ?_
      refine dv_iinc (v := nI (j - 1)) cx dL_law_453 rfl (by rw [dv_m1]; exact dv_prd (by omega)) ?_
      refine dv_goto (pc := 456) (tgt := 436) cx dL_law_456 (by decide) ?_
      refine ih (j - 1) (by omega) (by omega) _ _ (I.w2 C _) (fun i hi => ?_)
      by_cases e1 : i = j
      · rw [e1, pk_us, if_pos (by omega)]
      · rw [pk_un e1, hf i hi]
        by_cases e2 : j < i
        · rw [if_pos e2, if_pos (by omega)]
        · rw [if_neg e2, if_neg (by omega)]
  exact loop (ps.length - pp) ps.length (by omega) (Nat.le_refl _) f2 h1 I1 (fun i hi => by rw [if_neg (by omega)])
/-- removeAt -/
theorem dv_op_removeAt (cx : CallFix p m c code 17 s #[Value.ref b] lw_all "LegacyDrillLaw") (C : dv_LC g s b L pa tb a2 a3 a4 xs) (hoqu : o + q + u = t) (ht : 3 * t + 3 ≤ L) (hps : ps.length ≤ t) (hkv : kvs.length ≤ q) (I : dv_LH g s L d pa tb a2 a3 a4 f2 f3 f4 ps kvs h) (p2 : dv_pf f2 ps) (p3 : dv_pf f3 (kvs.map (·.1))) (p4 : dv_pf f4 (kvs.map (·.2))) (B : dv_Bk g p l e s m below meth c b L d pa tb a2 a3 a4 t) (c15 : dv_c1 (some t15) = true) (c16 : dv_c1 (some t16) = true) (hpp : ps.length ≠ 0 → pp < ps.length) : dv_LV g p l e s m below meth c b h (dv_kc o q u) (dv_nc o q u) (dv_LF m 468 b d a2 a3 a4 (nI ps.length) (nI kvs.length) (nI (3 * t)) (dv_7 w v k a (nI pp) no (nI kk - 1) t15 t16) []) := by
  have hK := C.1
  have ap := hK.ap
  have hL := C.2.2.2.2.2.1
  have K1 := dv_kcO o q u
  have K2 := dv_kn (o := o + 1) (q := q) (u := u) (by omega)
  refine dv_iload (pc := 468) cx dL_law_468 rfl ?_
  refine dv_if_le (tgt := 886) cx dL_law_470 (by decide) (fun _ => ?_) (fun hz => ?_)
  · exact dv_op_same cx C hoqu ht hps hkv I p2 p3 p4 B c15 c16 (by omega) (by omega)
  have hz : 0 < ps.length := by
    rcases Nat.eq_zero_or_pos ps.length with z | z
    · exact absurd (by rw [z]; decide) hz
    · exact z
  have hpl := hpp (by omega)
  refine dv_aload_n (pc := 473) cx dL_law_473 rfl rfl rfl ?_
  refine dv_iload (pc := 474) cx dL_law_474 rfl ?_
  refine dv_cV (C := RX0) (rest := []) (av := [.int (nI pp)]) cx hK (mt_x_removeAt l g d pa tb pp ps hpl C.2.2.1.1) q304 q305 q306 q6 q307 (n9 := 1) ⟨by decide, by decide, by decide +kernel⟩ rfl (I.rc C) ⟨⟨_, I.1⟩, I.mp C, ⟨I.2.2.1, I.2.2.2.1⟩, (by show dv_kc o q u + 0 ≤ 1200000; omega), (by show dv_nc o q u + 0 ≤ 5502250; omega)⟩ ⟨⟨Nat.le_of_ble_eq_true rfl, Nat.le_of_ble_eq_true rfl⟩, Nat.le_of_ble_eq_true rfl⟩ rfl rfl dL_law_476 (fun v h1 hS hf => ?_)
  obtain ⟨rfl, hV⟩ := hS
  have I1 := I.mv C hf (by decide) hV (I.2.2.2.2.fr ap hf (by decide))
  have el : (ps.eraseIdx pp).length = ps.length - 1 := List.length_eraseIdx_of_lt hpl
  refine dv_iinc (v := nI (ps.length - 1)) cx dL_law_479 rfl (by rw [dv_m1]; exact dv_prd hz) ?_
  have loop : ∀ r j, pp ≤ j → j + r = ps.length - 1 → ∀ (f : Nat → Int32) (h : dv_H), dv_LH g s L d pa tb a2 a3 a4 f f3 f4 (ps.eraseIdx pp) kvs h → (∀ i, i < ps.length → f i = if pp ≤ i ∧ i < j then f2 (i + 1) else f2 i) →
      dv_LV g p l e s m below meth c b h (dv_kc o q u) (dv_nc o q u) (dv_LF m 482 b d a2 a3 a4 (nI (ps.length - 1)) (nI kvs.length) (nI (3 * t)) (dv_7 w v k a (nI j) no (nI kk - 1) t15 t16) []) := by
    intro r
    induction r with
    | zero =>
      intro j hpj hj f h I hf
      refine dv_iload (pc := 482) cx dL_law_482 rfl ?_
      refine dv_iload (pc := 484) cx dL_law_484 rfl ?_
      refine dv_icmp_ge (tgt := 886) cx dL_law_486 (by decide) (fun _ => ?_) (fun z => absurd (nI_le (by omega) (by omega)) z)
      have Z := dv_op_same cx C hoqu ht (by rw [el]; omega) hkv I (p2.ers hpl (fun i hi => by
        rw [hf i (by omega)]
        by_cases e1 : pp ≤ i
        · rw [if_pos ⟨e1, by omega⟩, if_pos e1]
        · rw [if_neg (fun z => e1 z.1), if_neg e1])) p3 p4 B c15 c16 (x8 := w) (x9 := v) (x10 := k) (x11 := a) (x12 := nI j) (x13 := no) (x14 := nI kk - 1) (k0 := dv_kc o q u) (n0 := dv_nc o q u) (by omega) (by omega)
      rw [el] at Z
      exact Z
    | succ r ih =>
      intro j hpj hj f h I hf
      refine dv_iload (pc := 482) cx dL_law_482 rfl ?_
      refine dv_iload (pc := 484) cx dL_law_484 rfl ?_
      refine dv_icmp_ge (tgt := 886) cx dL_law_486 (by decide) (fun z => absurd ((nI_leI (by omega) (by omega)).mp z) (by omega)) (fun _ => ?_)
      refine dv_aload_n (pc := 489) cx dL_law_489 rfl rfl rfl ?_
      refine dv_iload (pc := 490) cx dL_law_490 rfl ?_
      refine dv_aload_n (pc := 492) cx dL_law_492 rfl rfl rfl ?_
      refine dv_iload (pc := 493) cx dL_law_493 rfl ?_
      refine dv_iconst (pc := 495) (v := 1) cx dL_law_495 (by decide) ?_
      refine dv_iadd (v := nI (j + 1)) cx dL_law_496 (nI_1 _) ?_
      refine dv_iald (i := j + 1) (v := f2 (j + 1)) cx hK I.2.1.1 rfl (by omega) (by omega) (by rw [hf _ (by omega), if_neg (by omega)]) dL_law_497 ?_
      refine dv_iast (i := j) cx hK I.2.1.1 C.2.2.2.1.1 rfl (by omega) (by omega) dL_law_498 ?_
      refine dv_iinc (v := nI (j + 1)) cx dL_law_499 rfl (by rw [dv_p1, nI_1]) ?_
      refine dv_goto (pc := 502) (tgt := 482) cx dL_law_502 (by decide) ?_
      refine ih (j + 1) (by omega) (by omega) _ _ (I.w2 C _) (fun i hi => ?_)
      by_cases e1 : i = j
      · rw [e1, pk_us, if_pos ⟨hpj, by omega⟩]
      · rw [pk_un e1, hf i hi]
        by_cases e2 : pp ≤ i ∧ i < j
        · rw [if_pos e2, if_pos ⟨e2.1, by omega⟩]
        · rw [if_neg e2, if_neg (by omega)]
  exact loop (ps.length - 1 - pp) pp (Nat.le_refl _) (by omega) f2 h1 I1 (fun i hi => by rw [if_neg (by omega)])
/-- remove -/
theorem dv_op_remove (cx : CallFix p m c code 17 s #[Value.ref b] lw_all "LegacyDrillLaw") (C : dv_LC g s b L pa tb a2 a3 a4 xs) (hoqu : o + q + u = t) (ht : 3 * t + 3 ≤ L) (hps : ps.length ≤ t) (hkv : kvs.length ≤ q) (I : dv_LH g s L d pa tb a2 a3 a4 f2 f3 f4 ps kvs h) (p2 : dv_pf f2 ps) (p3 : dv_pf f3 (kvs.map (·.1))) (p4 : dv_pf f4 (kvs.map (·.2))) (B : dv_Bk g p l e s m below meth c b L d pa tb a2 a3 a4 t) (c15 : dv_c1 (some t15) = true) (c16 : dv_c1 (some t16) = true) : dv_LV g p l e s m below meth c b h (dv_kc o q u) (dv_nc o q u) (dv_LF m 505 b d a2 a3 a4 (nI ps.length) (nI kvs.length) (nI (3 * t)) (dv_7 w v k a (nI pp) no (nI kk - 1) t15 t16) []) := by
  have hK := C.1
  have ap := hK.ap
  have hL := C.2.2.2.2.2.1
  have K1 := dv_kcO o q u
  have K2 := dv_kn (o := o + 1) (q := q) (u := u) (by omega)
  have out : ∀ j, dv_fst a ps j → dv_LV g p l e s m below meth c b h (dv_kc o q u) (dv_nc o q u) (dv_LF m 530 b d a2 a3 a4 (nI ps.length) (nI kvs.length) (nI (3 * t)) (dv_7 w v k a (nI pp) no (nI kk - 1) (.val (.int (nI j))) t16) []) := by
    intro j hj
    have hjl := hj.1
    refine dv_aload_n (pc := 530) cx dL_law_530 rfl rfl rfl ?_
    refine dv_iload (pc := 531) cx dL_law_531 rfl ?_
    refine dv_cV (C := RX0) (rest := []) (av := [.int a]) cx hK (mt_x_remove l g d pa tb ps a C.2.2.1.1) q309 q310 q311 q6 q312 (n9 := 1) ⟨by decide, by decide, by decide +kernel⟩ rfl (I.rc C) ⟨⟨_, I.1⟩, I.mp C, ⟨I.2.2.1, I.2.2.2.1⟩, (by show dv_kc o q u + 1 ≤ 1200000; omega), (by show dv_nc o q u + 1 ≤ 5502250; omega)⟩ ⟨⟨Nat.le_of_ble_eq_true rfl, Nat.le_of_ble_eq_true rfl⟩, Nat.le_of_ble_eq_true rfl⟩ rfl rfl dL_law_533 (fun v h1 hS hf => ?_)
    obtain ⟨j', hj', hS⟩ := hS
    have ej := hj.uniq hj'
    subst ej
    rcases hS with ⟨hlt, rfl, hV⟩ | ⟨heq, rfl, hV⟩
    · have I1 := I.mv C hf (by decide) hV (I.2.2.2.2.fr ap hf (by decide))
      have el : (ps.eraseIdx j).length = ps.length - 1 := List.length_eraseIdx_of_lt hlt
      refine dv_iload (pc := 536) cx dL_law_536 rfl ?_
      refine dv_iload (pc := 538) cx dL_law_538 rfl ?_
      refine dv_icmp_ge (tgt := 547) cx dL_law_540 (by decide) (fun z => absurd ((nI_leI (by omega) (by omega)).mp z) (by omega)) (fun _ => ?_)
      refine dv_iconst (pc := 543) (v := 1) cx dL_law_543 (by decide) ?_
      refine dv_goto (pc := 544) (tgt := 548) cx dL_law_544 (by decide) ?_
      refine dv_icmp_eq (tgt := 553) cx dL_law_548 (by decide) (fun _ => ?_) (fun z => absurd rfl z)
      refine dv_iload (pc := 553) cx dL_law_553 rfl ?_
      refine dv_iload (pc := 555) cx dL_law_555 rfl ?_
      refine dv_icmp_ge (tgt := 886) cx dL_law_557 (by decide) (fun z => absurd ((nI_leI (by omega) (by omega)).mp z) (by omega)) (fun _ => ?_)
      refine dv_iinc (v := nI (ps.length - 1)) cx dL_law_560 rfl (by rw [dv_m1]; exact dv_prd (by omega)) ?_
      have loop : ∀ r i0, j ≤ i0 → i0 + r = ps.length - 1 → ∀ (f : Nat → Int32) (h : dv_H), dv_LH g s L d pa tb a2 a3 a4 f f3 f4 (ps.eraseIdx j) kvs h → (∀ i, i < ps.length → f i = if j ≤ i ∧ i < i0 then f2 (i + 1) else f2 i) →
          dv_LV g p l e s m below meth c b h (dv_kc o q u + 1) (dv_nc o q u + 1) (dv_LF m 563 b d a2 a3 a4 (nI (ps.length - 1)) (nI kvs.length) (nI (3 * t)) (dv_7 w v k a (nI pp) no (nI kk - 1) (.val (.int (nI i0))) t16) []) := by
        intro r
        induction r with
        | zero =>
          intro i0 hpj hj f h I hf
          refine dv_iload (pc := 563) cx dL_law_563 rfl ?_
          refine dv_iload (pc := 565) cx dL_law_565 rfl ?_
          refine dv_icmp_ge (tgt := 886) cx dL_law_567 (by decide) (fun _ => ?_) (fun z => absurd (nI_le (by omega) (by omega)) z)
          have Z := dv_op_same cx C hoqu ht (by rw [el]; omega) hkv I (p2.ers hlt (fun i hi => by
            rw [hf i (by omega)]
            by_cases e1 : j ≤ i
            · rw [if_pos ⟨e1, by omega⟩, if_pos e1]
            · rw [if_neg (fun z => e1 z.1), if_neg e1])) p3 p4 B (t15 := .val (.int (nI i0))) rfl c16 (x8 := w) (x9 := v) (x10 := k) (x11 := a) (x12 := nI pp) (x13 := no) (x14 := nI kk - 1) (k0 := dv_kc o q u + 1) (n0 := dv_nc o q u + 1) (by omega) (by omega)
          rw [el] at Z
          exact Z
        | succ r ih =>
          intro i0 hpj hj f h I hf
          refine dv_iload (pc := 563) cx dL_law_563 rfl ?_
          refine dv_iload (pc := 565) cx dL_law_565 rfl ?_
          refine dv_icmp_ge (tgt := 886) cx dL_law_567 (by decide) (fun z => absurd ((nI_leI (by omega) (by omega)).mp z) (by omega)) (fun _ => ?_)
          refine dv_aload_n (pc := 570) cx dL_law_570 rfl rfl rfl ?_
          refine dv_iload (pc := 571) cx dL_law_571 rfl ?_
          refine dv_aload_n (pc := 573) cx dL_law_573 rfl rfl rfl ?_
          refine dv_iload (pc := 574) cx dL_law_574 rfl ?_
          refine dv_iconst (pc := 576) (v := 1) cx dL_law_576 (by decide) ?_
          refine dv_iadd (v := nI (i0 + 1)) cx dL_law_577 (nI_1 _) ?_
          refine dv_iald (i := i0 + 1) (v := f2 (i0 + 1)) cx hK I.2.1.1 rfl (by omega) (by omega) (by rw [hf _ (by omega), if_neg (by omega)]) dL_law_578 ?_
          refine dv_iast (i := i0) cx hK I.2.1.1 C.2.2.2.1.1 rfl (by omega) (by omega) dL_law_579 ?_
          refine dv_iinc (v := nI (i0 + 1)) cx dL_law_580 rfl (by rw [dv_p1, nI_1]) ?_
          refine dv_goto (pc := 583) (tgt := 563) cx dL_law_583 (by decide) ?_
          refine ih (i0 + 1) (by omega) (by omega) _ _ (I.w2 C _) (fun i hi => ?_)
          by_cases e1 : i = i0
          · rw [e1, pk_us, if_pos ⟨hpj, by omega⟩]
          · rw [pk_un e1, hf i hi]
            by_cases e2 : j ≤ i ∧ i < i0
            · rw [if_pos e2, if_pos ⟨e2.1, by omega⟩]
            · rw [if_neg e2, if_neg (by omega)]
      exact loop (ps.length - 1 - j) j (Nat.le_refl _) (by omega) f2 h1 I1 (fun i hi => by rw [if_neg (by omega)])
    · have I1 := I.mv C hf (by decide) hV (I.2.2.2.2.fr ap hf (by decide))
      refine dv_iload (pc := 536) cx dL_law_536 rfl ?_
      refine dv_iload (pc := 538) cx dL_law_538 rfl ?_
      refine dv_icmp_ge (tgt := 547) cx dL_law_540 (by decide) (fun _ => ?_) (fun z => absurd (nI_le (by omega) (by omega)) z)
      refine dv_iconst (pc := 547) (v := 0) cx dL_law_547 (by decide) ?_
      refine dv_icmp_eq (tgt := 553) cx dL_law_548 (by decide) (fun _ => ?_) (fun z => absurd rfl z)
      refine dv_iload (pc := 553) cx dL_law_553 rfl ?_
      refine dv_iload (pc := 555) cx dL_law_555 rfl ?_
      refine dv_icmp_ge (tgt := 886) cx dL_law_557 (by decide) (fun _ => ?_) (fun z => absurd (nI_le (by omega) (by omega)) z)
      exact dv_op_same cx C hoqu ht hps hkv I1 p2 p3 p4 B rfl c16 (by omega) (by omega)
  have loop : ∀ r j, j + r = ps.length → (∀ i, i < j → ps[i]? ≠ some a) → dv_LV g p l e s m below meth c b h (dv_kc o q u) (dv_nc o q u) (dv_LF m 508 b d a2 a3 a4 (nI ps.length) (nI kvs.length) (nI (3 * t)) (dv_7 w v k a (nI pp) no (nI kk - 1) (.val (.int (nI j))) t16) []) := by
    intro r
    induction r with
    | zero =>
      intro j hj hno
      refine dv_iload (pc := 508) cx dL_law_508 rfl ?_
      refine dv_iload (pc := 510) cx dL_law_510 rfl ?_
      refine dv_icmp_ge (tgt := 530) cx dL_law_512 (by decide) (fun _ => ?_) (fun z => absurd (nI_le (by omega) (by omega)) z)
      exact out j ⟨by omega, hno, fun z => absurd z (by omega)⟩
    | succ r ih =>
      intro j hj hno
      obtain ⟨x, hx⟩ : ∃ x, ps[j]? = some x := ⟨_, List.getElem?_eq_getElem (by omega)⟩
      refine dv_iload (pc := 508) cx dL_law_508 rfl ?_
      refine dv_iload (pc := 510) cx dL_law_510 rfl ?_
      refine dv_icmp_ge (tgt := 530) cx dL_law_512 (by decide) (fun z => absurd ((nI_leI (by omega) (by omega)).mp z) (by omega)) (fun _ => ?_)
      refine dv_aload_n (pc := 515) cx dL_law_515 rfl rfl rfl ?_
      refine dv_iload (pc := 516) cx dL_law_516 rfl ?_
      refine dv_iald (i := j) (v := x) cx hK I.2.1.1 rfl (by omega) (by omega) (p2 _ _ hx) dL_law_518 ?_
      refine dv_iload (pc := 519) cx dL_law_519 rfl ?_
      refine dv_icmp_eq (tgt := 530) cx dL_law_521 (by decide) (fun z => ?_) (fun z => ?_)
      · exact out j ⟨by omega, hno, fun _ => by rw [hx, z]⟩
      · refine dv_iinc (v := nI (j + 1)) cx dL_law_524 rfl (by rw [dv_p1, nI_1]) ?_
        refine dv_goto (pc := 527) (tgt := 508) cx dL_law_527 (by decide) ?_
        refine ih (j + 1) (by omega) (fun i hi => ?_)
        by_cases ei : i = j
        · rw [ei, hx]; exact fun e => z (Option.some.inj e)
        · exact hno i (by omega)
  refine dv_iconst (pc := 505) (v := 0) cx dL_law_505 (by decide) ?_
  refine dv_istore (pc := 506) cx dL_law_506 c15 ?_
  exact loop ps.length 0 (by omega) (fun i hi => absurd hi (by omega))
/-- size, at -/
theorem dv_op_at (cx : CallFix p m c code 17 s #[Value.ref b] lw_all "LegacyDrillLaw") (C : dv_LC g s b L pa tb a2 a3 a4 xs) (hoqu : o + q + u = t) (ht : 3 * t + 3 ≤ L) (hps : ps.length ≤ t) (hkv : kvs.length ≤ q) (I : dv_LH g s L d pa tb a2 a3 a4 f2 f3 f4 ps kvs h) (p2 : dv_pf f2 ps) (p3 : dv_pf f3 (kvs.map (·.1))) (p4 : dv_pf f4 (kvs.map (·.2))) (B : dv_Bk g p l e s m below meth c b L d pa tb a2 a3 a4 t) (c15 : dv_c1 (some t15) = true) (c16 : dv_c1 (some t16) = true) (hpp : ps.length ≠ 0 → pp < ps.length) : dv_LV g p l e s m below meth c b h (dv_kc o q u) (dv_nc o q u) (dv_LF m 586 b d a2 a3 a4 (nI ps.length) (nI kvs.length) (nI (3 * t)) (dv_7 w v k a (nI pp) no (nI kk - 1) t15 t16) []) := by
  have hK := C.1
  have hL := C.2.2.2.2.2.1
  have K1 := dv_kcO o q u
  have K2 := dv_kn (o := o + 1) (q := q) (u := u) (by omega)
  refine dv_aload_n (pc := 586) cx dL_law_586 rfl rfl rfl ?_
  refine dv_cV (C := RX0) (rest := []) (av := []) cx hK (mt_x_size l g d pa tb ps C.2.2.1.1) q335 q336 q337 q6 q338 (n9 := 0) ⟨by decide, by decide, by decide +kernel⟩ rfl (I.rc C) ⟨⟨_, I.1⟩, I.mp C, ⟨I.2.2.1, I.2.2.2.1⟩, (by show dv_kc o q u + 0 ≤ 1200000; omega), (by show dv_nc o q u + 0 ≤ 5502250; omega)⟩ ⟨⟨Nat.le_of_ble_eq_true rfl, Nat.le_of_ble_eq_true rfl⟩, Nat.le_of_ble_eq_true rfl⟩ rfl rfl dL_law_587 (fun v h1 hS hf => ?_)
  obtain ⟨rfl, rfl⟩ := hS
  refine dv_iload (pc := 590) cx dL_law_590 rfl ?_
  refine dv_icmp_ne (tgt := 613) cx dL_law_592 (by decide) (fun z => absurd rfl z) (fun _ => ?_)
  refine dv_iload (pc := 595) cx dL_law_595 rfl ?_
  refine dv_if_le (tgt := 886) cx dL_law_597 (by decide) (fun _ => ?_) (fun hz => ?_)
  · exact dv_op_same cx C hoqu ht hps hkv I p2 p3 p4 B c15 c16 (by omega) (by omega)
  have hz : 0 < ps.length := by
    rcases Nat.eq_zero_or_pos ps.length with z | z
    · exact absurd (by rw [z]; decide) hz
    · exact z
  have hpl := hpp (by omega)
  obtain ⟨x, hx⟩ : ∃ x, ps[pp]? = some x := ⟨_, List.getElem?_eq_getElem hpl⟩
  refine dv_aload_n (pc := 600) cx dL_law_600 rfl rfl rfl ?_
  refine dv_iload (pc := 601) cx dL_law_601 rfl ?_
  refine dv_cV (C := RX0) (rest := []) (av := [.int (nI pp)]) cx hK (mt_x_at l g d pa tb pp ps x hx C.2.2.1.1) q330 q331 q332 q6 q333 (n9 := 1) ⟨by decide, by decide, by decide +kernel⟩ rfl (I.rc C) ⟨⟨_, I.1⟩, I.mp C, ⟨I.2.2.1, I.2.2.2.1⟩, (by show dv_kc o q u + 0 + 0 ≤ 1200000; omega), (by show dv_nc o q u + 0 + 0 ≤ 5502250; omega)⟩ ⟨⟨Nat.le_of_ble_eq_true rfl, Nat.le_of_ble_eq_true rfl⟩, Nat.le_of_ble_eq_true rfl⟩ rfl rfl dL_law_603 (fun v h1 hS hf => ?_)
  obtain ⟨rfl, rfl⟩ := hS
  refine dv_aload_n (pc := 606) cx dL_law_606 rfl rfl rfl ?_
  refine dv_iload (pc := 607) cx dL_law_607 rfl ?_
  refine dv_iald (i := pp) (v := x) cx hK I.2.1.1 rfl (by omega) (by omega) (p2 _ _ hx) dL_law_609 ?_
  refine dv_icmp_eq (tgt := 886) cx dL_law_610 (by decide) (fun _ => ?_) (fun z => absurd rfl z)
  exact dv_op_same cx C hoqu ht hps hkv I p2 p3 p4 B c15 c16 (by omega) (by omega)
end DVS
end
section
/-! ===== the law: the operations on the table ===== -/
set_option maxRecDepth 100000
theorem dv_pf.set {f : Nat → Int32} {xs : List Int32} (h : dv_pf f xs) (i : Nat) (x : Int32) : dv_pf (upd f i x) (xs.set i x) := by
  intro j y hy
  rw [List.getElem?_set] at hy
  by_cases z : i = j
  · rw [if_pos z] at hy
    subst z
    rw [pk_us]
    by_cases z2 : i < xs.length
    · rw [if_pos z2] at hy
      exact Option.some.inj hy
    · rw [if_neg z2] at hy
      cases hy
  · rw [if_neg z] at hy
    rw [pk_un (Ne.symm z)]
    exact h j y hy
theorem dv_pf.set0 {f : Nat → Int32} {xs : List Int32} (h : dv_pf f xs) {i : Nat} {x : Int32} (hx : xs[i]? = some x) : dv_pf f (xs.set i x) := by
  intro j y hy
  rw [List.getElem?_set] at hy
  by_cases z : i = j
  · rw [if_pos z] at hy
    subst z
    rw [if_pos (List.getElem?_eq_some_iff.mp hx).1] at hy
    rw [← Option.some.inj hy]
    exact h _ _ hx
  · rw [if_neg z] at hy
    exact h j y hy
theorem dv_pf.fst {f : Nat → Int32} {kvs : List (Int32 × Int32)} (h : dv_pf f (kvs.map (·.1))) {i : Nat} {y : Int32 × Int32} (hy : kvs[i]? = some y) : f i = y.1 := h i _ (by rw [List.getElem?_map, hy]; rfl)
theorem dv_pf.snd {f : Nat → Int32} {kvs : List (Int32 × Int32)} (h : dv_pf f (kvs.map (·.2))) {i : Nat} {y : Int32 × Int32} (hy : kvs[i]? = some y) : f i = y.2 := h i _ (by rw [List.getElem?_map, hy]; rfl)
theorem dv_lst0 {k : Int32} {kvs : List (Int32 × Int32)} (h : dv_lst k (kvs.map (·.1)) 0) : ∀ z, (k, z) ∉ kvs := by
  intro z hz
  obtain ⟨i, hi⟩ := List.mem_iff_getElem?.mp hz
  have hl := (List.getElem?_eq_some_iff.mp hi).1
  exact h.2.1 i (Nat.zero_le _) (by rw [List.length_map]; exact hl) (by rw [List.getElem?_map, hi]; rfl)
theorem dv_lst1 {k : Int32} {kvs : List (Int32 × Int32)} {kk : Nat} (h : dv_lst k (kvs.map (·.1)) kk) (h0 : 0 < kk) : ∃ z, kvs[kk - 1]? = some (k, z) := by
  have h1 := h.2.2 h0
  rw [List.getElem?_map] at h1
  cases hy : kvs[kk - 1]? with
  | none => rw [hy] at h1; cases h1
  | some y =>
    rw [hy] at h1
    exact ⟨y.2, by rw [← Option.some.inj h1]⟩
/-- a list cut at a place -/
theorem dv_cut {α : Type} {xs : List α} {i : Nat} {y : α} (h : xs[i]? = some y) : ∃ A B, xs = A ++ y :: B ∧ A.length = i := by
  obtain ⟨hl, hy⟩ := List.getElem?_eq_some_iff.mp h
  refine ⟨xs.take i, xs.drop (i + 1), ?_, by rw [List.length_take]; omega⟩
  rw [← hy, List.getElem_cons_drop, List.take_append_drop]
theorem dv_set_cut {α : Type} (A B : List α) (y x : α) : (A ++ y :: B).set A.length x = A ++ x :: B := by
  rw [List.set_append_right _ _ (Nat.le_refl _), Nat.sub_self]
  rfl
theorem dv_nd_cut {k z : Int32} {A B : List (Int32 × Int32)} (h : ((A ++ (k, z) :: B).map (·.1)).Nodup) : ∀ u, (k, u) ∉ A ++ B := by
  intro u hu
  have h2 := ((List.perm_middle (a := (k, z)) (l₁ := A) (l₂ := B)).map (·.1)).nodup_iff.mp h
  rw [List.map_cons, List.nodup_cons] at h2
  exact h2.1 (List.mem_map.mpr ⟨_, hu, rfl⟩)
theorem dv_set_perm {k z a : Int32} {kvs : List (Int32 × Int32)} {i : Nat} (hi : kvs[i]? = some (k, z)) (hn : (kvs.map (·.1)).Nodup) : ((k, a) :: dv_wo k kvs).Perm (kvs.set i (k, a)) := by
  obtain ⟨A, B, rfl, rfl⟩ := dv_cut hi
  rw [dv_set_cut]
  have h1 := dv_wo1 (List.perm_middle (a := (k, z)) (l₁ := A) (l₂ := B)) (dv_nd_cut hn)
  exact (h1.cons _).trans List.perm_middle.symm
theorem dv_swp {k z : Int32} {init : List (Int32 × Int32)} {last : Int32 × Int32} {i : Nat} (hi : (init ++ [last])[i]? = some (k, z)) (hn : ((init ++ [last]).map (·.1)).Nodup) : (dv_wo k (init ++ [last])).Perm (init.set i last) := by
  by_cases c : i < init.length
  · rw [List.getElem?_append_left c] at hi
    obtain ⟨A, B, rfl, rfl⟩ := dv_cut hi
    rw [dv_set_cut]
    have e1 : (A ++ (k, z) :: B) ++ [last] = A ++ (k, z) :: (B ++ [last]) := by simp
    rw [e1] at hn ⊢
    have h1 := dv_wo1 (List.perm_middle (a := (k, z)) (l₁ := A) (l₂ := B ++ [last])) (dv_nd_cut hn)
    refine h1.trans ?_
    exact List.Perm.append_left A List.perm_append_comm
  · have hl := (List.getElem?_eq_some_iff.mp hi).1
    rw [List.length_append, List.length_singleton] at hl
    have e1 : i = init.length := by omega
    subst e1
    rw [List.getElem?_concat_length] at hi
    have e2 : last = (k, z) := Option.some.inj hi
    subst e2
    rw [List.set_eq_of_length_le (Nat.le_refl _)]
    have h1 := dv_wo1 (List.perm_middle (a := (k, z)) (l₁ := init) (l₂ := [])) (dv_nd_cut hn)
    rw [List.append_nil] at h1
    exact h1
section DVT
variable {g : dv_P} {p : Program} {l : Launch} {e : Env} {s : State} {m : MethodId} {below : List Frame} {meth : Method} {c : Code} {b L d pa tb a2 a3 a4 : Nat} {xs f2 f3 f4 : Nat → Int32} {ps : List Int32} {kvs : List (Int32 × Int32)} {h : dv_H} {o q u t pp kk : Nat} {w v k a no : Int32} {t15 t16 : Slot}
/-- get, has -/
theorem dv_op_get (cx : CallFix p m c code 17 s #[Value.ref b] lw_all "LegacyDrillLaw") (C : dv_LC g s b L pa tb a2 a3 a4 xs) (hoqu : o + q + u = t) (ht : 3 * t + 3 ≤ L) (hps : ps.length ≤ t) (hkv : kvs.length ≤ q) (I : dv_LH g s L d pa tb a2 a3 a4 f2 f3 f4 ps kvs h) (p2 : dv_pf f2 ps) (p3 : dv_pf f3 (kvs.map (·.1))) (p4 : dv_pf f4 (kvs.map (·.2))) (B : dv_Bk g p l e s m below meth c b L d pa tb a2 a3 a4 t) (c15 : dv_c1 (some t15) = true) (c16 : dv_c1 (some t16) = true) (hkk : dv_lst k (kvs.map (·.1)) kk) : dv_LV g p l e s m below meth c b h (dv_kc o q u) (dv_nc o q u) (dv_LF m 673 b d a2 a3 a4 (nI ps.length) (nI kvs.length) (nI (3 * t)) (dv_7 w v k a (nI pp) no (nI kk - 1) t15 t16) []) := by
  have hK := C.1
  have ap := hK.ap
  have hL := C.2.2.2.2.2.1
  have K1 := dv_kcO o q u
  have K2 := dv_kn (o := o + 1) (q := q) (u := u) (by omega)
  have hkl := hkk.1
  rw [List.length_map] at hkl
  have hnd := I.2.2.2.2.nd
  refine dv_aload_n (pc := 673) cx dL_law_673 rfl rfl rfl ?_
  refine dv_iload (pc := 674) cx dL_law_674 rfl ?_
  refine dv_iload (pc := 676) cx dL_law_676 rfl ?_
  refine dv_cV (C := RX0) (rest := []) (av := [.int k, .int no]) cx hK (mt_x_get l g d pa tb k no kvs C.2.2.1.2) q396 q397 q398 q6 q399 (n9 := 2) ⟨by decide, by decide, by decide +kernel⟩ rfl (I.rc C) ⟨⟨_, I.1⟩, I.mt C, ⟨I.2.2.1, I.2.2.2.2⟩, (by show dv_kc o q u + 1 ≤ 1200000; omega), (by show dv_nc o q u + 1 ≤ 5502250; omega)⟩ ⟨⟨Nat.le_of_ble_eq_true rfl, Nat.le_of_ble_eq_true rfl⟩, Nat.le_of_ble_eq_true rfl⟩ rfl rfl dL_law_678 (fun v h1 hS hf => ?_)
  obtain ⟨r, rfl, hr⟩ := hS
  have I1 := I.mv (js := []) C hf (by decide) (I.2.2.2.1.fr (js := []) ap hf (by decide)) (I.2.2.2.2.fr (js := []) ap hf (by decide))
  have two : ∀ x14 : Int32, x14 = nI kk - 1 → dv_LV g p l e s m below meth c b h1 (dv_kc o q u + 1) (dv_nc o q u + 1) (dv_LF m 699 b d a2 a3 a4 (nI ps.length) (nI kvs.length) (nI (3 * t)) (dv_7 w v k a (nI pp) no x14 t15 t16) []) := by
    intro x14 hx14
    refine dv_aload_n (pc := 699) cx dL_law_699 rfl rfl rfl ?_
    refine dv_iload (pc := 700) cx dL_law_700 rfl ?_
    refine dv_cV (C := RX0) (rest := []) (av := [.int k]) cx hK (mt_x_has l g d pa tb k kvs C.2.2.1.2) q420 q421 q422 q6 q423 (n9 := 1) ⟨by decide, by decide, by decide +kernel⟩ rfl (I1.rc C) ⟨⟨_, I1.1⟩, I1.mt C, ⟨I1.2.2.1, I1.2.2.2.2⟩, (by show dv_kc o q u + 1 + 1 ≤ 1200000; omega), (by show dv_nc o q u + 1 + 1 ≤ 5502250; omega)⟩ ⟨⟨Nat.le_of_ble_eq_true rfl, Nat.le_of_ble_eq_true rfl⟩, Nat.le_of_ble_eq_true rfl⟩ rfl rfl dL_law_702 (fun v h2 hS hf2 => ?_)
    have I2 := I1.mv (js := []) C hf2 (by decide) (I1.2.2.2.1.fr (js := []) ap hf2 (by decide)) (I1.2.2.2.2.fr (js := []) ap hf2 (by decide))
    rcases Nat.eq_zero_or_pos kk with hz | hz
    · subst hz
      rcases hS with ⟨⟨z, hz⟩, rfl⟩ | ⟨-, rfl⟩
      · exact absurd hz (dv_lst0 hkk z)
      · refine dv_iload (pc := 705) cx dL_law_705 rfl ?_
        refine dv_if_lt (tgt := 714) cx dL_law_707 (by decide) (fun _ => ?_) (fun z => absurd (by rw [hx14]; decide) z)
        refine dv_iconst (pc := 714) (v := 0) cx dL_law_714 (by decide) ?_
        refine dv_icmp_eq (tgt := 886) cx dL_law_715 (by decide) (fun _ => ?_) (fun z => absurd rfl z)
        exact dv_op_same cx C hoqu ht hps hkv I2 p2 p3 p4 B c15 c16 (by omega) (by omega)
    · obtain ⟨z, hzz⟩ := dv_lst1 hkk hz
      rcases hS with ⟨-, rfl⟩ | ⟨hno, rfl⟩
      · refine dv_iload (pc := 705) cx dL_law_705 rfl ?_
        refine dv_if_lt (tgt := 714) cx dL_law_707 (by decide) (fun z => absurd z (by rw [hx14, dv_prd hz]; exact nI_pos (by omega))) (fun _ => ?_)
        refine dv_iconst (pc := 710) (v := 1) cx dL_law_710 (by decide) ?_
        refine dv_goto (pc := 711) (tgt := 715) cx dL_law_711 (by decide) ?_
        refine dv_icmp_eq (tgt := 886) cx dL_law_715 (by decide) (fun _ => ?_) (fun z => absurd rfl z)
        exact dv_op_same cx C hoqu ht hps hkv I2 p2 p3 p4 B c15 c16 (by omega) (by omega)
      · exact absurd (List.mem_of_getElem? hzz) (hno z)
  rcases Nat.eq_zero_or_pos kk with hz | hz
  · rcases hr with hr | ⟨-, rfl⟩
    · subst hz; exact absurd hr (dv_lst0 hkk r)
    · refine dv_iload (pc := 681) cx dL_law_681 rfl ?_
      refine dv_if_lt (tgt := 694) cx dL_law_683 (by decide) (fun _ => ?_) (fun z => absurd (by rw [hz]; decide) z)
      refine dv_iload (pc := 694) cx dL_law_694 rfl ?_
      refine dv_icmp_ne (tgt := 718) cx dL_law_696 (by decide) (fun z => absurd rfl z) (fun _ => ?_)
      exact two _ rfl
  · obtain ⟨z, hzz⟩ := dv_lst1 hkk hz
    have er : r = z := by
      rcases hr with hr | ⟨hno, -⟩
      · exact dv_kuniq hnd hr (List.mem_of_getElem? hzz)
      · exact absurd (List.mem_of_getElem? hzz) (hno z)
    subst er
    refine dv_iload (pc := 681) cx dL_law_681 rfl ?_
    refine dv_if_lt (tgt := 694) cx dL_law_683 (by decide) (fun z => absurd z (by rw [dv_prd hz]; exact nI_pos (by omega))) (fun _ => ?_)
    refine dv_aload (pc := 686) cx dL_law_686 rfl rfl ?_
    refine dv_iload (pc := 688) cx dL_law_688 rfl ?_
    refine dv_iald (i := kk - 1) (v := r) cx hK I1.2.1.2.2 (dv_prd hz) (by omega) (by omega) (p4.snd hzz) dL_law_690 ?_
    refine dv_goto (pc := 691) (tgt := 696) cx dL_law_691 (by decide) ?_
    refine dv_icmp_ne (tgt := 718) cx dL_law_696 (by decide) (fun z => absurd rfl z) (fun _ => ?_)
    exact two _ rfl
/-- put -/
theorem dv_op_put (cx : CallFix p m c code 17 s #[Value.ref b] lw_all "LegacyDrillLaw") (C : dv_LC g s b L pa tb a2 a3 a4 xs) (hoqu : o + q + u = t) (ht : 3 * t + 3 ≤ L) (hps : ps.length ≤ t) (hkv : kvs.length ≤ q) (I : dv_LH g s L d pa tb a2 a3 a4 f2 f3 f4 ps kvs h) (p2 : dv_pf f2 ps) (p3 : dv_pf f3 (kvs.map (·.1))) (p4 : dv_pf f4 (kvs.map (·.2))) (B : dv_Bk g p l e s m below meth c b L d pa tb a2 a3 a4 t) (c15 : dv_c1 (some t15) = true) (c16 : dv_c1 (some t16) = true) (hkk : dv_lst k (kvs.map (·.1)) kk) : dv_LV g p l e s m below meth c b h (dv_kc o q u) (dv_nc o q u) (dv_LF m 615 b d a2 a3 a4 (nI ps.length) (nI kvs.length) (nI (3 * t)) (dv_7 w v k a (nI pp) no (nI kk - 1) t15 t16) []) := by
  have hK := C.1
  have ap := hK.ap
  have hL := C.2.2.2.2.2.1
  have K1 := dv_kcQ o q u
  have K2 := dv_kn (o := o) (q := q + 1) (u := u) (by omega)
  have hkl := hkk.1
  rw [List.length_map] at hkl
  have hnd := I.2.2.2.2.nd
  refine dv_aload_n (pc := 615) cx dL_law_615 rfl rfl rfl ?_
  refine dv_iload (pc := 616) cx dL_law_616 rfl ?_
  refine dv_iload (pc := 618) cx dL_law_618 rfl ?_
  refine dv_iload (pc := 620) cx dL_law_620 rfl ?_
  refine dv_cV (C := RX0) (rest := []) (av := [.int k, .int a, .int no]) cx hK (mt_x_put l g d pa tb k a no kvs (by omega) C.2.2.1.2) q340 q341 q342 q6 q343 (n9 := 3) ⟨by decide, by decide, by decide +kernel⟩ rfl (I.rc C) ⟨⟨_, I.1⟩, I.mt C, ⟨I.2.2.1, I.2.2.2.2⟩, (by show dv_kc o q u + 4 ≤ 1200000; omega), (by show dv_nc o q u + 3077 ≤ 5502250; omega)⟩ ⟨⟨Nat.le_of_ble_eq_true rfl, Nat.le_of_ble_eq_true rfl⟩, Nat.le_of_ble_eq_true rfl⟩ rfl rfl dL_law_622 (fun v h1 hS hf => ?_)
  obtain ⟨r, rfl, hr, hT⟩ := hS
  rcases Nat.eq_zero_or_pos kk with hz | hz
  · subst hz
    have hno := dv_lst0 hkk
    rw [dv_wo0 hno] at hT
    have hT := hT.perm (kv' := kvs ++ [(k, a)]) (List.perm_append_comm (l₁ := [(k, a)]))
    have I1 := I.mv C hf (by decide) (I.2.2.2.1.fr ap hf (by decide)) hT
    have er : r = no := by
      rcases hr with hr | ⟨-, er⟩
      · exact absurd hr (hno r)
      · exact er
    subst er
    refine dv_iload (pc := 625) cx dL_law_625 rfl ?_
    refine dv_if_lt (tgt := 638) cx dL_law_627 (by decide) (fun _ => ?_) (fun z => absurd (by decide) z)
    refine dv_iload (pc := 638) cx dL_law_638 rfl ?_
    refine dv_icmp_eq (tgt := 645) cx dL_law_640 (by decide) (fun _ => ?_) (fun z => absurd rfl z)
    refine dv_iload (pc := 645) cx dL_law_645 rfl ?_
    refine dv_if_ge (tgt := 663) cx dL_law_647 (by decide) (fun z => absurd z (by decide)) (fun _ => ?_)
    refine dv_iload (pc := 650) cx dL_law_650 rfl ?_
    refine dv_iinc (v := nI (kvs.length + 1)) cx dL_law_652 rfl (by rw [dv_p1, nI_1]) ?_
    refine dv_istore (pc := 655) cx dL_law_655 rfl ?_
    refine dv_aload_n (pc := 657) cx dL_law_657 rfl rfl rfl ?_
    refine dv_iload (pc := 658) cx dL_law_658 rfl ?_
    refine dv_iload (pc := 660) cx dL_law_660 rfl ?_
    refine dv_iast (i := kvs.length) cx hK I1.2.1.2.1 C.2.2.2.1.2.1 rfl (by omega) (by omega) dL_law_662 ?_
    have I2 := I1.w3 C (upd f3 kvs.length k)
    refine dv_aload (pc := 663) cx dL_law_663 rfl rfl ?_
    refine dv_iload (pc := 665) cx dL_law_665 rfl ?_
    refine dv_iload (pc := 667) cx dL_law_667 rfl ?_
    refine dv_iast (i := kvs.length) cx hK I2.2.1.2.2 C.2.2.2.1.2.2 rfl (by omega) (by omega) dL_law_669 ?_
    have I3 := I2.w4 C (upd f4 kvs.length a)
    refine dv_goto (pc := 670) (tgt := 886) cx dL_law_670 (by decide) ?_
    refine dv_widen (k' := dv_kc o (q + 1) u) (n' := dv_nc o (q + 1) u) (by omega) (by omega) ?_
    have e3 := p3.snoc k
    have e4 := p4.snoc a
    rw [List.length_map] at e3 e4
    have Z := B o (q + 1) u ps (kvs ++ [(k, a)]) _ w v k a (nI pp) r (nI kvs.length) t15 t16 (by omega) c15 c16 (by omega) (by rw [List.length_append, List.length_singleton]; omega) ⟨_, _, _, I3, p2, by rw [List.map_append]; exact e3, by rw [List.map_append]; exact e4⟩
    rw [List.length_append] at Z
    exact Z
  · obtain ⟨z, hzz⟩ := dv_lst1 hkk hz
    have er : r = z := by
      rcases hr with hr | ⟨hno, -⟩
      · exact dv_kuniq hnd hr (List.mem_of_getElem? hzz)
      · exact absurd (List.mem_of_getElem? hzz) (hno z)
    subst er
    have hT := hT.perm (dv_set_perm (a := a) hzz hnd)
    have I1 := I.mv C hf (by decide) (I.2.2.2.1.fr ap hf (by decide)) hT
    refine dv_iload (pc := 625) cx dL_law_625 rfl ?_
    refine dv_if_lt (tgt := 638) cx dL_law_627 (by decide) (fun z => absurd z (by rw [dv_prd hz]; exact nI_pos (by omega))) (fun _ => ?_)
    refine dv_aload (pc := 630) cx dL_law_630 rfl rfl ?_
    refine dv_iload (pc := 632) cx dL_law_632 rfl ?_
    refine dv_iald (i := kk - 1) (v := r) cx hK I1.2.1.2.2 (dv_prd hz) (by omega) (by omega) (p4.snd hzz) dL_law_634 ?_
    refine dv_goto (pc := 635) (tgt := 640) cx dL_law_635 (by decide) ?_
    refine dv_icmp_eq (tgt := 645) cx dL_law_640 (by decide) (fun _ => ?_) (fun z => absurd rfl z)
    refine dv_iload (pc := 645) cx dL_law_645 rfl ?_
    refine dv_if_ge (tgt := 663) cx dL_law_647 (by decide) (fun _ => ?_) (fun z => absurd (by rw [dv_prd hz]; exact nI_pos' (by omega)) z)
    refine dv_aload (pc := 663) cx dL_law_663 rfl rfl ?_
    refine dv_iload (pc := 665) cx dL_law_665 rfl ?_
    refine dv_iload (pc := 667) cx dL_law_667 rfl ?_
    refine dv_iast (i := kk - 1) cx hK I1.2.1.2.2 C.2.2.2.1.2.2 (dv_prd hz) (by omega) (by omega) dL_law_669 ?_
    have I3 := I1.w4 C (upd f4 (kk - 1) a)
    refine dv_goto (pc := 670) (tgt := 886) cx dL_law_670 (by decide) ?_
    refine dv_widen (k' := dv_kc o (q + 1) u) (n' := dv_nc o (q + 1) u) (by omega) (by omega) ?_
    have Z := B o (q + 1) u ps (kvs.set (kk - 1) (k, a)) _ w v k a (nI pp) no (nI kk - 1) t15 t16 (by omega) c15 c16 (by omega) (by rw [List.length_set]; omega) ⟨_, _, _, I3, p2, by rw [List.map_set]; exact p3.set0 (by rw [List.getElem?_map, hzz]; rfl), by rw [List.map_set]; exact p4.set _ _⟩
    rw [List.length_set] at Z
    exact Z
/-- take -/
theorem dv_op_take (cx : CallFix p m c code 17 s #[Value.ref b] lw_all "LegacyDrillLaw") (C : dv_LC g s b L pa tb a2 a3 a4 xs) (hoqu : o + q + u = t) (ht : 3 * t + 3 ≤ L) (hps : ps.length ≤ t) (hkv : kvs.length ≤ q) (I : dv_LH g s L d pa tb a2 a3 a4 f2 f3 f4 ps kvs h) (p2 : dv_pf f2 ps) (p3 : dv_pf f3 (kvs.map (·.1))) (p4 : dv_pf f4 (kvs.map (·.2))) (B : dv_Bk g p l e s m below meth c b L d pa tb a2 a3 a4 t) (c15 : dv_c1 (some t15) = true) (c16 : dv_c1 (some t16) = true) (hkk : dv_lst k (kvs.map (·.1)) kk) : dv_LV g p l e s m below meth c b h (dv_kc o q u) (dv_nc o q u) (dv_LF m 720 b d a2 a3 a4 (nI ps.length) (nI kvs.length) (nI (3 * t)) (dv_7 w v k a (nI pp) no (nI kk - 1) t15 t16) []) := by
  have hK := C.1
  have ap := hK.ap
  have hL := C.2.2.2.2.2.1
  have K1 := dv_kcO o q u
  have K2 := dv_kn (o := o + 1) (q := q) (u := u) (by omega)
  have hkl := hkk.1
  rw [List.length_map] at hkl
  have hnd := I.2.2.2.2.nd
  refine dv_aload_n (pc := 720) cx dL_law_720 rfl rfl rfl ?_
  refine dv_iload (pc := 721) cx dL_law_721 rfl ?_
  refine dv_iload (pc := 723) cx dL_law_723 rfl ?_
  refine dv_cV (C := RX0) (rest := []) (av := [.int k, .int no]) cx hK (mt_x_take l g d pa tb k no kvs (by omega) C.2.2.1.2) q404 q405 q406 q6 q407 (n9 := 2) ⟨by decide, by decide, by decide +kernel⟩ rfl (I.rc C) ⟨⟨_, I.1⟩, I.mt C, ⟨I.2.2.1, I.2.2.2.2⟩, (by show dv_kc o q u + 1 ≤ 1200000; omega), (by show dv_nc o q u + 1 ≤ 5502250; omega)⟩ ⟨⟨Nat.le_of_ble_eq_true rfl, Nat.le_of_ble_eq_true rfl⟩, Nat.le_of_ble_eq_true rfl⟩ rfl rfl dL_law_725 (fun v h1 hS hf => ?_)
  obtain ⟨r, rfl, hr, hT⟩ := hS
  rcases Nat.eq_zero_or_pos kk with hz | hz
  · subst hz
    have hno := dv_lst0 hkk
    rw [dv_wo0 hno] at hT
    have I1 := I.mv C hf (by decide) (I.2.2.2.1.fr ap hf (by decide)) hT
    have er : r = no := by
      rcases hr with hr | ⟨-, er⟩
      · exact absurd hr (hno r)
      · exact er
    subst er
    refine dv_iload (pc := 728) cx dL_law_728 rfl ?_
    refine dv_if_lt (tgt := 741) cx dL_law_730 (by decide) (fun _ => ?_) (fun z => absurd (by decide) z)
    refine dv_iload (pc := 741) cx dL_law_741 rfl ?_
    refine dv_icmp_eq (tgt := 748) cx dL_law_743 (by decide) (fun _ => ?_) (fun z => absurd rfl z)
    refine dv_iload (pc := 748) cx dL_law_748 rfl ?_
    refine dv_if_lt (tgt := 886) cx dL_law_750 (by decide) (fun _ => ?_) (fun z => absurd (by decide) z)
    exact dv_op_same cx C hoqu ht hps hkv I1 p2 p3 p4 B c15 c16 (by omega) (by omega)
  · obtain ⟨z, hzz⟩ := dv_lst1 hkk hz
    have er : r = z := by
      rcases hr with hr | ⟨hno, -⟩
      · exact dv_kuniq hnd hr (List.mem_of_getElem? hzz)
      · exact absurd (List.mem_of_getElem? hzz) (hno z)
    subst er
    have hne : kvs ≠ [] := fun z => by rw [z] at hkl; exact absurd hkl (by show ¬ kk ≤ 0; omega)
    obtain ⟨init, last, hil⟩ : ∃ init last, kvs = init ++ [last] := ⟨kvs.dropLast, kvs.getLast hne, (List.dropLast_concat_getLast hne).symm⟩
    subst hil
    have hT := hT.perm (dv_swp hzz hnd)
    have I1 := I.mv C hf (by decide) (I.2.2.2.1.fr ap hf (by decide)) hT
    have hlen : (init ++ [last]).length = init.length + 1 := by rw [List.length_append]; rfl
    have hlast : (init ++ [last])[init.length]? = some last := List.getElem?_concat_length
    have p3' : dv_pf f3 (init.map (·.1)) := fun i x hx => p3 i x (by rw [List.map_append, List.getElem?_append_left (List.getElem?_eq_some_iff.mp hx).1]; exact hx)
    have p4' : dv_pf f4 (init.map (·.2)) := fun i x hx => p4 i x (by rw [List.map_append, List.getElem?_append_left (List.getElem?_eq_some_iff.mp hx).1]; exact hx)
    refine dv_iload (pc := 728) cx dL_law_728 rfl ?_
    refine dv_if_lt (tgt := 741) cx dL_law_730 (by decide) (fun z => absurd z (by rw [dv_prd hz]; exact nI_pos (by omega))) (fun _ => ?_)
    refine dv_aload (pc := 733) cx dL_law_733 rfl rfl ?_
    refine dv_iload (pc := 735) cx dL_law_735 rfl ?_
    refine dv_iald (i := kk - 1) (v := r) cx hK I1.2.1.2.2 (dv_prd hz) (by omega) (by omega) (p4.snd hzz) dL_law_737 ?_
    refine dv_goto (pc := 738) (tgt := 743) cx dL_law_738 (by decide) ?_
    refine dv_icmp_eq (tgt := 748) cx dL_law_743 (by decide) (fun _ => ?_) (fun z => absurd rfl z)
    refine dv_iload (pc := 748) cx dL_law_748 rfl ?_
    refine dv_if_lt (tgt := 886) cx dL_law_750 (by decide) (fun z => absurd z (by rw [dv_prd hz]; exact nI_pos (by omega))) (fun _ => ?_)
    refine dv_aload_n (pc := 753) cx dL_law_753 rfl rfl rfl ?_
    refine dv_iload (pc := 754) cx dL_law_754 rfl ?_
    refine dv_aload_n (pc := 756) cx dL_law_756 rfl rfl rfl ?_
    refine dv_iinc (v := nI init.length) cx dL_law_757 rfl (by rw [dv_m1, hlen, nI_pred]) ?_
    refine dv_iload (pc := 760) cx dL_law_760 rfl ?_
    refine dv_iald (i := init.length) (v := last.1) cx hK I1.2.1.2.1 rfl (by omega) (by omega) (p3.fst hlast) dL_law_762 ?_
    refine dv_iast (i := kk - 1) cx hK I1.2.1.2.1 C.2.2.2.1.2.1 (dv_prd hz) (by omega) (by omega) dL_law_763 ?_
    have I2 := I1.w3 C (upd f3 (kk - 1) last.1)
    refine dv_aload (pc := 764) cx dL_law_764 rfl rfl ?_
    refine dv_iload (pc := 766) cx dL_law_766 rfl ?_
    refine dv_aload (pc := 768) cx dL_law_768 rfl rfl ?_
    refine dv_iload (pc := 770) cx dL_law_770 rfl ?_
    refine dv_iald (i := init.length) (v := last.2) cx hK I2.2.1.2.2 rfl (by omega) (by omega) (p4.snd hlast) dL_law_772 ?_
    refine dv_iast (i := kk - 1) cx hK I2.2.1.2.2 C.2.2.2.1.2.2 (dv_prd hz) (by omega) (by omega) dL_law_773 ?_
    have I3 := I2.w4 C (upd f4 (kk - 1) last.2)
    refine dv_goto (pc := 774) (tgt := 886) cx dL_law_774 (by decide) ?_
    have Z := dv_op_same cx C hoqu ht hps (kvs := init.set (kk - 1) last) (by rw [List.length_set]; omega) I3 p2 (by rw [List.map_set]; exact p3'.set _ _) (by rw [List.map_set]; exact p4'.set _ _) B c15 c16 (x8 := w) (x9 := v) (x10 := k) (x11 := a) (x12 := nI pp) (x13 := no) (x14 := nI kk - 1) (k0 := dv_kc o q u + 1) (n0 := dv_nc o q u + 1) (by omega) (by omega)
    rw [List.length_set] at Z
    exact Z
/-- holds, tableSize -/
theorem dv_op_holds (cx : CallFix p m c code 17 s #[Value.ref b] lw_all "LegacyDrillLaw") (C : dv_LC g s b L pa tb a2 a3 a4 xs) (hoqu : o + q + u = t) (ht : 3 * t + 3 ≤ L) (hps : ps.length ≤ t) (hkv : kvs.length ≤ q) (I : dv_LH g s L d pa tb a2 a3 a4 f2 f3 f4 ps kvs h) (p2 : dv_pf f2 ps) (p3 : dv_pf f3 (kvs.map (·.1))) (p4 : dv_pf f4 (kvs.map (·.2))) (B : dv_Bk g p l e s m below meth c b L d pa tb a2 a3 a4 t) (c15 : dv_c1 (some t15) = true) (c16 : dv_c1 (some t16) = true) : dv_LV g p l e s m below meth c b h (dv_kc o q u) (dv_nc o q u) (dv_LF m 777 b d a2 a3 a4 (nI ps.length) (nI kvs.length) (nI (3 * t)) (dv_7 w v k a (nI pp) no (nI kk - 1) t15 t16) []) := by
  have hK := C.1
  have ap := hK.ap
  have hL := C.2.2.2.2.2.1
  have K1 := dv_kcO o q u
  have K2 := dv_kn (o := o + 1) (q := q) (u := u) (by omega)
  have loop : ∀ r j, j + r = kvs.length → ∀ acc : Int32, (acc = 1 ∧ (∃ i y, i < j ∧ kvs[i]? = some y ∧ y.2 = a) ∨ acc = 0 ∧ (∀ i y, i < j → kvs[i]? = some y → y.2 ≠ a)) →
      dv_LV g p l e s m below meth c b h (dv_kc o q u) (dv_nc o q u) (dv_LF m 783 b d a2 a3 a4 (nI ps.length) (nI kvs.length) (nI (3 * t)) (dv_7 w v k a (nI pp) no (nI kk - 1) (.val (.int acc)) (.val (.int (nI j)))) []) := by
    intro r
    induction r with
    | zero =>
      intro j hj acc hacc
      refine dv_iload (pc := 783) cx dL_law_783 rfl ?_
      refine dv_iload (pc := 785) cx dL_law_785 rfl ?_
      refine dv_icmp_ge (tgt := 816) cx dL_law_787 (by decide) (fun _ => ?_) (fun z => absurd (nI_le (by omega) (by omega)) z)
      refine dv_aload_n (pc := 816) cx dL_law_816 rfl rfl rfl ?_
      refine dv_iload (pc := 817) cx dL_law_817 rfl ?_
      refine dv_cV (C := RX0) (rest := []) (av := [.int a]) cx hK (mt_x_holds l g d pa tb a kvs C.2.2.1.2) q412 q413 q414 q6 q415 (n9 := 1) ⟨by decide, by decide, by decide +kernel⟩ rfl (I.rc C) ⟨⟨_, I.1⟩, I.mt C, ⟨I.2.2.1, I.2.2.2.2⟩, (by show dv_kc o q u + 1 ≤ 1200000; omega), (by show dv_nc o q u + 1 ≤ 5502250; omega)⟩ ⟨⟨Nat.le_of_ble_eq_true rfl, Nat.le_of_ble_eq_true rfl⟩, Nat.le_of_ble_eq_true rfl⟩ rfl rfl dL_law_819 (fun v h1 hS hf => ?_)
      have I1 := I.mv (js := []) C hf (by decide) (I.2.2.2.1.fr (js := []) ap hf (by decide)) (I.2.2.2.2.fr (js := []) ap hf (by decide))
      have ev : v = some (.int acc) := by
        rcases hS with ⟨⟨k1, hk1⟩, rfl⟩ | ⟨hno, rfl⟩
        · rcases hacc with ⟨rfl, -⟩ | ⟨-, h2⟩
          · rfl
          · obtain ⟨i, hi⟩ := List.mem_iff_getElem?.mp hk1
            exact absurd rfl (h2 i _ (by have := (List.getElem?_eq_some_iff.mp hi).1; omega) hi)
        · rcases hacc with ⟨-, i, y, -, hy, e1⟩ | ⟨rfl, -⟩
          · exact absurd (List.mem_of_getElem? hy) (fun z => hno y.1 (by rw [← e1]; exact z))
          · rfl
      subst ev
      refine dv_iload (pc := 822) cx dL_law_822 rfl ?_
      refine dv_icmp_ne (tgt := 836) cx dL_law_824 (by decide) (fun z => absurd rfl z) (fun _ => ?_)
      refine dv_aload_n (pc := 827) cx dL_law_827 rfl rfl rfl ?_
      refine dv_cV (C := RX0) (rest := []) (av := []) cx hK (mt_x_tableSize l g d pa tb kvs C.2.2.1.2) q428 q429 q430 q6 q431 (n9 := 0) ⟨by decide, by decide, by decide +kernel⟩ rfl (I1.rc C) ⟨⟨_, I1.1⟩, I1.mt C, ⟨I1.2.2.1, I1.2.2.2.2⟩, (by show dv_kc o q u + 1 + 0 ≤ 1200000; omega), (by show dv_nc o q u + 1 + 0 ≤ 5502250; omega)⟩ ⟨⟨Nat.le_of_ble_eq_true rfl, Nat.le_of_ble_eq_true rfl⟩, Nat.le_of_ble_eq_true rfl⟩ rfl rfl dL_law_828 (fun v h2 hS hf2 => ?_)
      obtain ⟨rfl, rfl⟩ := hS
      refine dv_iload (pc := 831) cx dL_law_831 rfl ?_
      refine dv_icmp_eq (tgt := 886) cx dL_law_833 (by decide) (fun _ => ?_) (fun z => absurd rfl z)
      exact dv_op_same cx C hoqu ht hps hkv I1 p2 p3 p4 B rfl rfl (by omega) (by omega)
    | succ r ih =>
      intro j hj acc hacc
      obtain ⟨y, hy⟩ : ∃ y, kvs[j]? = some y := ⟨_, List.getElem?_eq_getElem (by omega)⟩
      refine dv_iload (pc := 783) cx dL_law_783 rfl ?_
      refine dv_iload (pc := 785) cx dL_law_785 rfl ?_
      refine dv_icmp_ge (tgt := 816) cx dL_law_787 (by decide) (fun z => absurd ((nI_leI (by omega) (by omega)).mp z) (by omega)) (fun _ => ?_)
      refine dv_iload (pc := 790) cx dL_law_790 rfl ?_
      refine dv_aload (pc := 792) cx dL_law_792 rfl rfl ?_
      refine dv_iload (pc := 794) cx dL_law_794 rfl ?_
      refine dv_iald (i := j) (v := y.2) cx hK I.2.1.2.2 rfl (by omega) (by omega) (p4.snd hy) dL_law_796 ?_
      refine dv_iload (pc := 797) cx dL_law_797 rfl ?_
      refine dv_icmp_ne (tgt := 806) cx dL_law_799 (by decide) (fun hc => ?_) (fun hc => ?_)
      · refine dv_iconst (pc := 806) (v := 0) cx dL_law_806 (by decide) ?_
        refine dv_ior (v := acc) cx dL_law_807 (by rcases hacc with ⟨rfl, -⟩ | ⟨rfl, -⟩ <;> decide) ?_
        refine dv_istore (pc := 808) cx dL_law_808 rfl ?_
        refine dv_iinc (v := nI (j + 1)) cx dL_law_810 rfl (by rw [dv_p1, nI_1]) ?_
        refine dv_goto (pc := 813) (tgt := 783) cx dL_law_813 (by decide) ?_
        refine ih (j + 1) (by omega) acc ?_
        rcases hacc with ⟨e1, i, y', h1, h2, h3⟩ | ⟨e1, h2⟩
        · exact Or.inl ⟨e1, i, y', by omega, h2, h3⟩
        · refine Or.inr ⟨e1, fun i y' hi hy' => ?_⟩
          by_cases ei : i = j
          · subst ei
            cases hy.symm.trans hy'
            exact hc
          · exact h2 i y' (by omega) hy'
      · refine dv_iconst (pc := 802) (v := 1) cx dL_law_802 (by decide) ?_
        refine dv_goto (pc := 803) (tgt := 807) cx dL_law_803 (by decide) ?_
        refine dv_ior (v := 1) cx dL_law_807 (by rcases hacc with ⟨rfl, -⟩ | ⟨rfl, -⟩ <;> decide) ?_
        refine dv_istore (pc := 808) cx dL_law_808 rfl ?_
        refine dv_iinc (v := nI (j + 1)) cx dL_law_810 rfl (by rw [dv_p1, nI_1]) ?_
        refine dv_goto (pc := 813) (tgt := 783) cx dL_law_813 (by decide) ?_
        exact ih (j + 1) (by omega) 1 (Or.inl ⟨rfl, j, y, by omega, hy, hc⟩)
  refine dv_iconst (pc := 777) (v := 0) cx dL_law_777 (by decide) ?_
  refine dv_istore (pc := 778) cx dL_law_778 c15 ?_
  refine dv_iconst (pc := 780) (v := 0) cx dL_law_780 (by decide) ?_
  refine dv_istore (pc := 781) cx dL_law_781 c16 ?_
  exact loop kvs.length 0 (by omega) 0 (Or.inr ⟨rfl, fun i y hi => absurd hi (by omega)⟩)
/-- sum -/
theorem dv_op_sum (cx : CallFix p m c code 17 s #[Value.ref b] lw_all "LegacyDrillLaw") (C : dv_LC g s b L pa tb a2 a3 a4 xs) (hoqu : o + q + u = t) (ht : 3 * t + 3 ≤ L) (hps : ps.length ≤ t) (hkv : kvs.length ≤ q) (I : dv_LH g s L d pa tb a2 a3 a4 f2 f3 f4 ps kvs h) (p2 : dv_pf f2 ps) (p3 : dv_pf f3 (kvs.map (·.1))) (p4 : dv_pf f4 (kvs.map (·.2))) (B : dv_Bk g p l e s m below meth c b L d pa tb a2 a3 a4 t) (c15 : dv_c1 (some t15) = true) (c16 : dv_c1 (some t16) = true) : dv_LV g p l e s m below meth c b h (dv_kc o q u) (dv_nc o q u) (dv_LF m 838 b d a2 a3 a4 (nI ps.length) (nI kvs.length) (nI (3 * t)) (dv_7 w v k a (nI pp) no (nI kk - 1) t15 t16) []) := by
  have hK := C.1
  have ap := hK.ap
  have hL := C.2.2.2.2.2.1
  have K1 := dv_kcU o q u
  have K2 := dv_kn (o := o) (q := q) (u := u + 1) (by omega)
  have loop : ∀ r j, j + r = kvs.length → ∀ acc : Int32, acc + dv_sm (kvs.drop j) = dv_sm kvs →
      dv_LV g p l e s m below meth c b h (dv_kc o q u) (dv_nc o q u) (dv_LF m 844 b d a2 a3 a4 (nI ps.length) (nI kvs.length) (nI (3 * t)) (dv_7 w v k a (nI pp) no (nI kk - 1) (.val (.int acc)) (.val (.int (nI j)))) []) := by
    intro r
    induction r with
    | zero =>
      intro j hj acc hacc
      have e1 : acc = dv_sm kvs := by
        rw [← hacc, List.drop_eq_nil_of_le (by omega)]
        exact (Int32.add_zero acc).symm
      subst e1
      refine dv_iload (pc := 844) cx dL_law_844 rfl ?_
      refine dv_iload (pc := 846) cx dL_law_846 rfl ?_
      refine dv_icmp_ge (tgt := 875) cx dL_law_848 (by decide) (fun _ => ?_) (fun z => absurd (nI_le (by omega) (by omega)) z)
      refine dv_aload_n (pc := 875) cx dL_law_875 rfl rfl rfl ?_
      refine dv_cV (C := RX0) (rest := []) (av := []) cx hK (mt_x_sum l g d pa tb kvs (by omega) C.2.2.1.2) q436 q437 q438 q6 q439 (n9 := 0) ⟨by decide, by decide, by decide +kernel⟩ rfl (I.rc C) ⟨⟨_, I.1⟩, I.mt C, ⟨I.2.2.1, I.2.2.2.2⟩, (by show dv_kc o q u + (kvs.length + 1) ≤ 1200000; omega), (by show dv_nc o q u + (kvs.length + 8) ≤ 5502250; omega)⟩ ⟨⟨Nat.le_of_ble_eq_true rfl, Nat.le_of_ble_eq_true rfl⟩, Nat.le_of_ble_eq_true rfl⟩ rfl rfl dL_law_876 (fun v h1 hS hf => ?_)
      subst hS
      have I1 := I.mv C hf (by decide) (I.2.2.2.1.fr ap hf (by decide)) (I.2.2.2.2.fr ap hf (by decide))
      refine dv_iload (pc := 879) cx dL_law_879 rfl ?_
      refine dv_icmp_eq (tgt := 886) cx dL_law_881 (by decide) (fun _ => ?_) (fun z => absurd rfl z)
      refine dv_widen (k' := dv_kc o q (u + 1)) (n' := dv_nc o q (u + 1)) (by omega) (by omega) ?_
      exact B o q (u + 1) ps kvs h1 w v k a (nI pp) no (nI kk - 1) _ _ (by omega) rfl rfl (by omega) hkv ⟨f2, f3, f4, I1, p2, p3, p4⟩
    | succ r ih =>
      intro j hj acc hacc
      obtain ⟨y, hy⟩ : ∃ y, kvs[j]? = some y := ⟨_, List.getElem?_eq_getElem (by omega)⟩
      have ed : kvs.drop j = y :: kvs.drop (j + 1) := by
        obtain ⟨hl, e1⟩ := List.getElem?_eq_some_iff.mp hy
        rw [← e1]
        exact (List.getElem_cons_drop hl).symm
      refine dv_iload (pc := 844) cx dL_law_844 rfl ?_
      refine dv_iload (pc := 846) cx dL_law_846 rfl ?_
      refine dv_icmp_ge (tgt := 875) cx dL_law_848 (by decide) (fun z => absurd ((nI_leI (by omega) (by omega)).mp z) (by omega)) (fun _ => ?_)
      refine dv_iload (pc := 851) cx dL_law_851 rfl ?_
      refine dv_aload_n (pc := 853) cx dL_law_853 rfl rfl rfl ?_
      refine dv_iload (pc := 854) cx dL_law_854 rfl ?_
      refine dv_iald (i := j) (v := y.1) cx hK I.2.1.2.1 rfl (by omega) (by omega) (p3.fst hy) dL_law_856 ?_
      refine dv_bipush (pc := 857) (v := 31) cx dL_law_857 (by decide) ?_
      refine dv_imul (pc := 859) cx dL_law_859 rfl ?_
      refine dv_aload (pc := 860) cx dL_law_860 rfl rfl ?_
      refine dv_iload (pc := 862) cx dL_law_862 rfl ?_
      refine dv_iald (i := j) (v := y.2) cx hK I.2.1.2.2 rfl (by omega) (by omega) (p4.snd hy) dL_law_864 ?_
      refine dv_ixor (pc := 865) cx dL_law_865 rfl ?_
      refine dv_iadd (pc := 866) cx dL_law_866 rfl ?_
      refine dv_istore (pc := 867) cx dL_law_867 rfl ?_
      refine dv_iinc (v := nI (j + 1)) cx dL_law_869 rfl (by rw [dv_p1, nI_1]) ?_
      refine dv_goto (pc := 872) (tgt := 844) cx dL_law_872 (by decide) ?_
      refine ih (j + 1) (by omega) _ ?_
      rw [← hacc, ed, dv_sm, ← Int32.add_assoc]
  refine dv_iconst (pc := 838) (v := 0) cx dL_law_838 (by decide) ?_
  refine dv_istore (pc := 839) cx dL_law_839 c15 ?_
  refine dv_iconst (pc := 841) (v := 0) cx dL_law_841 (by decide) ?_
  refine dv_istore (pc := 842) cx dL_law_842 c16 ?_
  exact loop kvs.length 0 (by omega) 0 (by rw [List.drop_zero]; exact Int32.zero_add _)
end DVT
end
section
/-! ===== the law: its header, its switch, its loop ===== -/
set_option maxRecDepth 100000
section DVW
variable {lo : Nat} {p : Program} {l : Launch} {e : Env} {R : Room} {s : State} {m : MethodId} {args : Array Value} {below : List Frame} {meth : Method} {c : Code} {h : dv_H} {k n : Nat} {Q : State → Prop}
variable {pc nL : Nat} {ls : List Slot} {st : List Value} {cc : ByteArray} {own : String}
theorem dv_tabIn (cx : CallFix p m c cc nL s args lw_all own) {dflt l1 h1 : Int} {offs : Array Int} {len : Nat} {x : Int32} {off : Int} {tgt : Nat} (hd : decode cc pc = .ok (.tableswitch dflt l1 h1 offs, len)) (a1 : ¬ x.toInt < l1) (a2 : ¬ h1 < x.toInt) (ho : offs[(x.toInt - l1).toNat]? = some off) (ht : (pc : Int) + off = (tgt : Int))
    (kk : dv_V lo p l e R s m args below meth c h k n Q (dv_G none 0 m tgt ls st)) : dv_V lo p l e R s m args below meth c h k n Q (dv_G none 0 m pc ls (.int x :: st)) := fun H locs z1 z2 z3 => lv_tableIn cx.1 cx.2.1 hd a1 a2 ho ht (kk H locs z1 z2 z3)
theorem dv_tabOut (cx : CallFix p m c cc nL s args lw_all own) {dflt l1 h1 : Int} {offs : Array Int} {len : Nat} {x : Int32} {tgt : Nat} (hd : decode cc pc = .ok (.tableswitch dflt l1 h1 offs, len)) (a1 : x.toInt < l1 ∨ h1 < x.toInt) (ht : (pc : Int) + dflt = (tgt : Int))
    (kk : dv_V lo p l e R s m args below meth c h k n Q (dv_G none 0 m tgt ls st)) : dv_V lo p l e R s m args below meth c h k n Q (dv_G none 0 m pc ls (.int x :: st)) := fun H locs z1 z2 z3 => lv_tableOut cx.1 cx.2.1 hd a1 ht (kk H locs z1 z2 z3)
end DVW
section DVH2
variable {g : dv_P} {p : Program} {l : Launch} {e : Env} {s : State} {m : MethodId} {below : List Frame} {meth : Method} {c : Code} {b L d pa tb a2 a3 a4 : Nat} {xs f2 f3 f4 : Nat → Int32} {ps : List Int32} {kvs : List (Int32 × Int32)} {h : dv_H} {o q u t pp kk : Nat} {w v k a no : Int32} {t15 t16 : Slot}
/-- the switch -/
theorem dv_switch (cx : CallFix p m c code 17 s #[Value.ref b] lw_all "LegacyDrillLaw") (C : dv_LC g s b L pa tb a2 a3 a4 xs) (hoqu : o + q + u = t) (ht : 3 * t + 3 ≤ L) (hps : ps.length ≤ t) (hkv : kvs.length ≤ q) (I : dv_LH g s L d pa tb a2 a3 a4 f2 f3 f4 ps kvs h) (p2 : dv_pf f2 ps) (p3 : dv_pf f3 (kvs.map (·.1))) (p4 : dv_pf f4 (kvs.map (·.2))) (B : dv_Bk g p l e s m below meth c b L d pa tb a2 a3 a4 t) (c15 : dv_c1 (some t15) = true) (c16 : dv_c1 (some t16) = true) (hp0 : ps.length = 0 → pp = 0) (hp1 : ps.length ≠ 0 → pp < ps.length) (hkk : dv_lst k (kvs.map (·.1)) kk) (sw : Int32) : dv_LV g p l e s m below meth c b h (dv_kc o q u) (dv_nc o q u) (dv_LF m 172 b d a2 a3 a4 (nI ps.length) (nI kvs.length) (nI (3 * t)) (dv_7 w v k a (nI pp) no (nI kk - 1) t15 t16) [.int (sw &&& 31)]) := by
  obtain ⟨j, hj, ej⟩ := pk_andE sw (m := 31) 5 (by decide)
  rw [ej]
  have hj : j < 32 := hj
  have hpi : pp ≤ ps.length := by
    rcases Nat.eq_zero_or_pos ps.length with z | z
    · rw [hp0 z]; exact Nat.zero_le _
    · exact Nat.le_of_lt (hp1 (by omega))
  rcases (show j = 0 ∨ j = 1 ∨ j = 2 ∨ j = 3 ∨ j = 4 ∨ j = 5 ∨ j = 6 ∨ j = 7 ∨ j = 8 ∨ j = 9 ∨ j = 10 ∨ j = 11 ∨ j = 12 ∨ j = 13 ∨ j = 14 ∨ j = 15 ∨ j = 16 ∨ j = 17 ∨ j = 18 ∨ j = 19 ∨ j = 20 ∨ j = 21 ∨ j = 22 ∨ j = 23 ∨ j = 24 ∨ j = 25 ∨ j = 26 ∨ j = 27 ∨ j = 28 ∨ j = 29 ∨ j = 30 ∨ j = 31 by omega) with rfl | rfl | rfl | rfl | rfl | rfl | rfl | rfl | rfl | rfl | rfl | rfl | rfl | rfl | rfl | rfl | rfl | rfl | rfl | rfl | rfl | rfl | rfl | rfl | rfl | rfl | rfl | rfl | rfl | rfl | rfl | rfl
  · refine dv_tabIn (tgt := 292) cx dL_law_172 (by decide) (by decide) (by rfl) (by decide) ?_
    exact dv_op_push cx C hoqu ht hps hkv I p2 p3 p4 B c15 c16
  · refine dv_tabIn (tgt := 292) cx dL_law_172 (by decide) (by decide) (by rfl) (by decide) ?_
    exact dv_op_push cx C hoqu ht hps hkv I p2 p3 p4 B c15 c16
  · refine dv_tabIn (tgt := 292) cx dL_law_172 (by decide) (by decide) (by rfl) (by decide) ?_
    exact dv_op_push cx C hoqu ht hps hkv I p2 p3 p4 B c15 c16
  · refine dv_tabIn (tgt := 292) cx dL_law_172 (by decide) (by decide) (by rfl) (by decide) ?_
    exact dv_op_push cx C hoqu ht hps hkv I p2 p3 p4 B c15 c16
  · refine dv_tabIn (tgt := 292) cx dL_law_172 (by decide) (by decide) (by rfl) (by decide) ?_
    exact dv_op_push cx C hoqu ht hps hkv I p2 p3 p4 B c15 c16
  · refine dv_tabIn (tgt := 317) cx dL_law_172 (by decide) (by decide) (by rfl) (by decide) ?_
    exact dv_op_pop cx C hoqu ht hps hkv I p2 p3 p4 B c15 c16
  · refine dv_tabIn (tgt := 317) cx dL_law_172 (by decide) (by decide) (by rfl) (by decide) ?_
    exact dv_op_pop cx C hoqu ht hps hkv I p2 p3 p4 B c15 c16
  · refine dv_tabIn (tgt := 370) cx dL_law_172 (by decide) (by decide) (by rfl) (by decide) ?_
    exact dv_op_search cx C hoqu ht hps hkv I p2 p3 p4 B c15 c16
  · refine dv_tabIn (tgt := 370) cx dL_law_172 (by decide) (by decide) (by rfl) (by decide) ?_
    exact dv_op_search cx C hoqu ht hps hkv I p2 p3 p4 B c15 c16
  · refine dv_tabIn (tgt := 421) cx dL_law_172 (by decide) (by decide) (by rfl) (by decide) ?_
    exact dv_op_insert cx C hoqu ht hps hkv I p2 p3 p4 B c15 c16 hpi
  · refine dv_tabIn (tgt := 468) cx dL_law_172 (by decide) (by decide) (by rfl) (by decide) ?_
    exact dv_op_removeAt cx C hoqu ht hps hkv I p2 p3 p4 B c15 c16 hp1
  · refine dv_tabIn (tgt := 505) cx dL_law_172 (by decide) (by decide) (by rfl) (by decide) ?_
    exact dv_op_remove cx C hoqu ht hps hkv I p2 p3 p4 B c15 c16
  · refine dv_tabIn (tgt := 586) cx dL_law_172 (by decide) (by decide) (by rfl) (by decide) ?_
    exact dv_op_at cx C hoqu ht hps hkv I p2 p3 p4 B c15 c16 hp1
  · refine dv_tabIn (tgt := 615) cx dL_law_172 (by decide) (by decide) (by rfl) (by decide) ?_
    exact dv_op_put cx C hoqu ht hps hkv I p2 p3 p4 B c15 c16 hkk
  · refine dv_tabIn (tgt := 615) cx dL_law_172 (by decide) (by decide) (by rfl) (by decide) ?_
    exact dv_op_put cx C hoqu ht hps hkv I p2 p3 p4 B c15 c16 hkk
  · refine dv_tabIn (tgt := 615) cx dL_law_172 (by decide) (by decide) (by rfl) (by decide) ?_
    exact dv_op_put cx C hoqu ht hps hkv I p2 p3 p4 B c15 c16 hkk
  · refine dv_tabIn (tgt := 615) cx dL_law_172 (by decide) (by decide) (by rfl) (by decide) ?_
    exact dv_op_put cx C hoqu ht hps hkv I p2 p3 p4 B c15 c16 hkk
  · refine dv_tabIn (tgt := 615) cx dL_law_172 (by decide) (by decide) (by rfl) (by decide) ?_
    exact dv_op_put cx C hoqu ht hps hkv I p2 p3 p4 B c15 c16 hkk
  · refine dv_tabIn (tgt := 615) cx dL_law_172 (by decide) (by decide) (by rfl) (by decide) ?_
    exact dv_op_put cx C hoqu ht hps hkv I p2 p3 p4 B c15 c16 hkk
  · refine dv_tabIn (tgt := 673) cx dL_law_172 (by decide) (by decide) (by rfl) (by decide) ?_
    exact dv_op_get cx C hoqu ht hps hkv I p2 p3 p4 B c15 c16 hkk
  · refine dv_tabIn (tgt := 673) cx dL_law_172 (by decide) (by decide) (by rfl) (by decide) ?_
    exact dv_op_get cx C hoqu ht hps hkv I p2 p3 p4 B c15 c16 hkk
  · refine dv_tabIn (tgt := 673) cx dL_law_172 (by decide) (by decide) (by rfl) (by decide) ?_
    exact dv_op_get cx C hoqu ht hps hkv I p2 p3 p4 B c15 c16 hkk
  · refine dv_tabIn (tgt := 720) cx dL_law_172 (by decide) (by decide) (by rfl) (by decide) ?_
    exact dv_op_take cx C hoqu ht hps hkv I p2 p3 p4 B c15 c16 hkk
  · refine dv_tabIn (tgt := 720) cx dL_law_172 (by decide) (by decide) (by rfl) (by decide) ?_
    exact dv_op_take cx C hoqu ht hps hkv I p2 p3 p4 B c15 c16 hkk
  · refine dv_tabIn (tgt := 777) cx dL_law_172 (by decide) (by decide) (by rfl) (by decide) ?_
    exact dv_op_holds cx C hoqu ht hps hkv I p2 p3 p4 B c15 c16
  · refine dv_tabIn (tgt := 777) cx dL_law_172 (by decide) (by decide) (by rfl) (by decide) ?_
    exact dv_op_holds cx C hoqu ht hps hkv I p2 p3 p4 B c15 c16
  · refine dv_tabOut (tgt := 838) cx dL_law_172 (by decide) (by decide) ?_
    exact dv_op_sum cx C hoqu ht hps hkv I p2 p3 p4 B c15 c16
  · refine dv_tabOut (tgt := 838) cx dL_law_172 (by decide) (by decide) ?_
    exact dv_op_sum cx C hoqu ht hps hkv I p2 p3 p4 B c15 c16
  · refine dv_tabOut (tgt := 838) cx dL_law_172 (by decide) (by decide) ?_
    exact dv_op_sum cx C hoqu ht hps hkv I p2 p3 p4 B c15 c16
  · refine dv_tabOut (tgt := 838) cx dL_law_172 (by decide) (by decide) ?_
    exact dv_op_sum cx C hoqu ht hps hkv I p2 p3 p4 B c15 c16
  · refine dv_tabOut (tgt := 838) cx dL_law_172 (by decide) (by decide) ?_
    exact dv_op_sum cx C hoqu ht hps hkv I p2 p3 p4 B c15 c16
  · refine dv_tabOut (tgt := 838) cx dL_law_172 (by decide) (by decide) ?_
    exact dv_op_sum cx C hoqu ht hps hkv I p2 p3 p4 B c15 c16
/-- the search of the key -/
theorem dv_find (cx : CallFix p m c code 17 s #[Value.ref b] lw_all "LegacyDrillLaw") (C : dv_LC g s b L pa tb a2 a3 a4 xs) (hoqu : o + q + u = t) (ht : 3 * t + 3 ≤ L) (hps : ps.length ≤ t) (hkv : kvs.length ≤ q) (I : dv_LH g s L d pa tb a2 a3 a4 f2 f3 f4 ps kvs h) (p2 : dv_pf f2 ps) (p3 : dv_pf f3 (kvs.map (·.1))) (p4 : dv_pf f4 (kvs.map (·.2))) (B : dv_Bk g p l e s m below meth c b L d pa tb a2 a3 a4 t) (c15 : dv_c1 (some t15) = true) (c16 : dv_c1 (some t16) = true) (hp0 : ps.length = 0 → pp = 0) (hp1 : ps.length ≠ 0 → pp < ps.length) : ∀ j, j ≤ kvs.length → (∀ i, j ≤ i → i < kvs.length → (kvs.map (·.1))[i]? ≠ some k) → dv_LV g p l e s m below meth c b h (dv_kc o q u) (dv_nc o q u) (dv_LF m 145 b d a2 a3 a4 (nI ps.length) (nI kvs.length) (nI (3 * t)) (dv_7 w v k a (nI pp) no (nI j - 1) t15 t16) []) := by
  have hK := C.1
  have hL := C.2.2.2.2.2.1
  have out : ∀ j, dv_lst k (kvs.map (·.1)) j → dv_LV g p l e s m below meth c b h (dv_kc o q u) (dv_nc o q u) (dv_LF m 165 b d a2 a3 a4 (nI ps.length) (nI kvs.length) (nI (3 * t)) (dv_7 w v k a (nI pp) no (nI j - 1) t15 t16) []) := by
    intro j hj
    refine dv_aload_n (pc := 165) cx dL_law_165 rfl rfl rfl ?_
    refine dv_iload (pc := 166) cx dL_law_166 rfl ?_
    refine dv_xald (i := 3 * t) cx hK C.2.2.2.2.2.2.1 C.2.2.2.2.2.2.2 I.1 rfl (by omega) (by omega) dL_law_168 ?_
    refine dv_bipush (pc := 169) (v := 31) cx dL_law_169 (by decide) ?_
    refine dv_iand (pc := 171) cx dL_law_171 rfl ?_
    exact dv_switch cx C hoqu ht hps hkv I p2 p3 p4 B c15 c16 hp0 hp1 hj (xs (3 * t))
  intro j
  induction j with
  | zero =>
    intro hj hno
    refine dv_iload (pc := 145) cx dL_law_145 rfl ?_
    refine dv_if_lt (tgt := 165) cx dL_law_147 (by decide) (fun _ => ?_) (fun z => absurd (by decide) z)
    exact out 0 ⟨by rw [List.length_map]; exact hj, fun i h1 h2 => hno i h1 (by rw [List.length_map] at h2; exact h2), fun z => absurd z (by omega)⟩
  | succ j ih =>
    intro hj hno
    obtain ⟨y, hy⟩ : ∃ y, kvs[j]? = some y := ⟨_, List.getElem?_eq_getElem (by omega)⟩
    have hy' : (kvs.map (·.1))[j]? = some y.1 := by rw [List.getElem?_map, hy]; rfl
    have Y := out (j + 1)
    rw [nI_pred] at Y ⊢
    refine dv_iload (pc := 145) cx dL_law_145 rfl ?_
    refine dv_if_lt (tgt := 165) cx dL_law_147 (by decide) (fun z => absurd z (nI_pos (by omega))) (fun _ => ?_)
    refine dv_aload_n (pc := 150) cx dL_law_150 rfl rfl rfl ?_
    refine dv_iload (pc := 151) cx dL_law_151 rfl ?_
    refine dv_iald (i := j) (v := y.1) cx hK I.2.1.2.1 rfl (by omega) (by omega) (p3.fst hy) dL_law_153 ?_
    refine dv_iload (pc := 154) cx dL_law_154 rfl ?_
    refine dv_icmp_eq (tgt := 165) cx dL_law_156 (by decide) (fun z => ?_) (fun z => ?_)
    · exact Y ⟨by rw [List.length_map]; exact hj, fun i h1 h2 => hno i h1 (by rw [List.length_map] at h2; exact h2), fun _ => by rw [Nat.add_sub_cancel, hy', z]⟩
    · refine dv_iinc (v := nI j - 1) cx dL_law_159 rfl (by rw [dv_m1]) ?_
      refine dv_goto (pc := 162) (tgt := 145) cx dL_law_162 (by decide) ?_
      refine ih (by omega) (fun i h1 h2 => ?_)
      by_cases ei : i = j
      · rw [ei, hy']; exact fun e => z (Option.some.inj e)
      · exact hno i (by omega) h2
/-- the header: from 42 -/
theorem dv_head (cx : CallFix p m c code 17 s #[Value.ref b] lw_all "LegacyDrillLaw") (C : dv_LC g s b L pa tb a2 a3 a4 xs) (hoqu : o + q + u = t) (ht : 3 * t + 3 ≤ L) (hps : ps.length ≤ t) (hkv : kvs.length ≤ q) (I : dv_LH g s L d pa tb a2 a3 a4 f2 f3 f4 ps kvs h) (p2 : dv_pf f2 ps) (p3 : dv_pf f3 (kvs.map (·.1))) (p4 : dv_pf f4 (kvs.map (·.2))) (B : dv_Bk g p l e s m below meth c b L d pa tb a2 a3 a4 t) (c15 : dv_c1 (some t15) = true) (c16 : dv_c1 (some t16) = true) {s8 s9 s10 s11 s12 s13 s14 : Slot} (c8 : dv_c1 (some s8) = true) (c9 : dv_c1 (some s9) = true) (c10 : dv_c1 (some s10) = true) (c11 : dv_c1 (some s11) = true) (c12 : dv_c1 (some s12) = true) (c13 : dv_c1 (some s13) = true) (c14 : dv_c1 (some s14) = true) : dv_LV g p l e s m below meth c b h (dv_kc o q u) (dv_nc o q u) (dv_LF m 42 b d a2 a3 a4 (nI ps.length) (nI kvs.length) (nI (3 * t)) [s8, s9, s10, s11, s12, s13, s14, t15, t16] []) := by
  have hK := C.1
  have hL := C.2.2.2.2.2.1
  have hX := C.2.2.2.2.2.2.1
  have hb0 := C.2.2.2.2.2.2.2
  refine dv_aload_n (pc := 42) cx dL_law_42 rfl rfl rfl ?_
  refine dv_iload (pc := 43) cx dL_law_43 rfl ?_
  refine dv_iconst (pc := 45) (v := 1) cx dL_law_45 (by decide) ?_
  refine dv_iadd (v := nI (3 * t + 1)) cx dL_law_46 (nI_1 _) ?_
  refine dv_xald (i := 3 * t + 1) cx hK hX hb0 I.1 rfl (by omega) (by omega) dL_law_47 ?_
  refine dv_istore (pc := 48) cx dL_law_48 c8 ?_
  refine dv_aload_n (pc := 50) cx dL_law_50 rfl rfl rfl ?_
  refine dv_iload (pc := 51) cx dL_law_51 rfl ?_
  refine dv_iconst (pc := 53) (v := 2) cx dL_law_53 (by decide) ?_
  refine dv_iadd (v := nI (3 * t + 2)) cx dL_law_54 (nI_add _ 2) ?_
  refine dv_xald (i := 3 * t + 2) cx hK hX hb0 I.1 rfl (by omega) (by omega) dL_law_55 ?_
  refine dv_istore (pc := 56) cx dL_law_56 c9 ?_
  refine dv_aload_n (pc := 58) cx dL_law_58 rfl rfl rfl ?_
  refine dv_iload (pc := 59) cx dL_law_59 rfl ?_
  refine dv_xald (i := 3 * t) cx hK hX hb0 I.1 rfl (by omega) (by omega) dL_law_61 ?_
  refine dv_bipush (pc := 62) (v := 32) cx dL_law_62 (by decide) ?_
  refine dv_iand (pc := 64) cx dL_law_64 rfl ?_
  have r131 : ∀ (x10 x11 : Int32) (pp : Nat), (ps.length = 0 → pp = 0) → (ps.length ≠ 0 → pp < ps.length) → dv_LV g p l e s m below meth c b h (dv_kc o q u) (dv_nc o q u) (dv_LF m 131 b d a2 a3 a4 (nI ps.length) (nI kvs.length) (nI (3 * t)) [.val (.int (xs (3 * t + 1))), .val (.int (xs (3 * t + 2))), .val (.int x10), .val (.int x11), s12, s13, s14, t15, t16] [.int (nI pp)]) := by
    intro x10 x11 pp hp0 hp1
    refine dv_istore (pc := 131) cx dL_law_131 c12 ?_
    refine dv_iload (pc := 133) cx dL_law_133 rfl ?_
    refine dv_iconst (pc := 135) (v := (-1)) cx dL_law_135 (by decide) ?_
    refine dv_ixor (pc := 136) cx dL_law_136 rfl ?_
    refine dv_istore (pc := 137) cx dL_law_137 c13 ?_
    refine dv_iload (pc := 139) cx dL_law_139 rfl ?_
    refine dv_iconst (pc := 141) (v := 1) cx dL_law_141 (by decide) ?_
    refine dv_isub (pc := 142) cx dL_law_142 rfl ?_
    refine dv_istore (pc := 143) cx dL_law_143 c14 ?_
    exact dv_find cx C hoqu ht hps hkv I p2 p3 p4 B c15 c16 hp0 hp1 kvs.length (Nat.le_refl _) (fun i h1 h2 => absurd h2 (by omega))
  have r112 : ∀ (x10 x11 : Int32), dv_LV g p l e s m below meth c b h (dv_kc o q u) (dv_nc o q u) (dv_LF m 112 b d a2 a3 a4 (nI ps.length) (nI kvs.length) (nI (3 * t)) [.val (.int (xs (3 * t + 1))), .val (.int (xs (3 * t + 2))), .val (.int x10), s11, s12, s13, s14, t15, t16] [.int x11]) := by
    intro x10 x11
    refine dv_istore (pc := 112) cx dL_law_112 c11 ?_
    refine dv_iload (pc := 114) cx dL_law_114 rfl ?_
    refine dv_if_ne (tgt := 123) cx dL_law_116 (by decide) (fun hz => ?_) (fun hz => ?_)
    · have h0 : 0 < ps.length := by
        rcases Nat.eq_zero_or_pos ps.length with z | z
        · exact absurd (by rw [z]; rfl) hz
        · exact z
      refine dv_iload (pc := 123) cx dL_law_123 rfl ?_
      refine dv_ldc (pc := 125) cx q518 dL_law_125 ?_
      refine dv_iand (pc := 127) cx dL_law_127 rfl ?_
      refine dv_iload (pc := 128) cx dL_law_128 rfl ?_
      refine dv_irem (v := nI (dv_ix (xs (3 * t + 1)) ps.length)) cx dL_law_130 hz (dv_ix_rem _ h0 (by omega)) ?_
      exact r131 x10 x11 _ (fun z => absurd z (by omega)) (fun _ => dv_ix_lt _ h0)
    · refine dv_iconst (pc := 119) (v := 0) cx dL_law_119 (by decide) ?_
      refine dv_goto (pc := 120) (tgt := 131) cx dL_law_120 (by decide) ?_
      refine r131 x10 x11 0 (fun _ => rfl) (fun z => ?_)
      exact absurd hz (nI_ne0 (by omega) (by omega))
  have r89 : ∀ (x10 : Int32), dv_LV g p l e s m below meth c b h (dv_kc o q u) (dv_nc o q u) (dv_LF m 89 b d a2 a3 a4 (nI ps.length) (nI kvs.length) (nI (3 * t)) [.val (.int (xs (3 * t + 1))), .val (.int (xs (3 * t + 2))), s10, s11, s12, s13, s14, t15, t16] [.int x10]) := by
    intro x10
    refine dv_istore (pc := 89) cx dL_law_89 c10 ?_
    refine dv_aload_n (pc := 91) cx dL_law_91 rfl rfl rfl ?_
    refine dv_iload (pc := 92) cx dL_law_92 rfl ?_
    refine dv_xald (i := 3 * t) cx hK hX hb0 I.1 rfl (by omega) (by omega) dL_law_94 ?_
    refine dv_sipush (pc := 95) (v := 1024) cx dL_law_95 (by decide) ?_
    refine dv_iand (pc := 98) cx dL_law_98 rfl ?_
    refine dv_if_eq (tgt := 107) cx dL_law_99 (by decide) (fun _ => ?_) (fun _ => ?_)
    · refine dv_iload (pc := 107) cx dL_law_107 rfl ?_
      refine dv_bipush (pc := 109) (v := 7) cx dL_law_109 (by decide) ?_
      refine dv_iand (pc := 111) cx dL_law_111 rfl ?_
      exact r112 x10 _
    · refine dv_iload (pc := 102) cx dL_law_102 rfl ?_
      refine dv_goto (pc := 104) (tgt := 112) cx dL_law_104 (by decide) ?_
      exact r112 x10 _
  refine dv_if_eq (tgt := 73) cx dL_law_65 (by decide) (fun _ => ?_) (fun _ => ?_)
  · refine dv_iload (pc := 73) cx dL_law_73 rfl ?_
    refine dv_bipush (pc := 75) (v := 31) cx dL_law_75 (by decide) ?_
    refine dv_iand (pc := 77) cx dL_law_77 rfl ?_
    refine dv_aload_n (pc := 78) cx dL_law_78 rfl rfl rfl ?_
    refine dv_iload (pc := 79) cx dL_law_79 rfl ?_
    refine dv_xald (i := 3 * t) cx hK hX hb0 I.1 rfl (by omega) (by omega) dL_law_81 ?_
    refine dv_bipush (pc := 82) (v := 6) cx dL_law_82 (by decide) ?_
    refine dv_ishr (pc := 84) cx dL_law_84 rfl ?_
    refine dv_bipush (pc := 85) (v := 15) cx dL_law_85 (by decide) ?_
    refine dv_iand (pc := 87) cx dL_law_87 rfl ?_
    refine dv_ishl (pc := 88) cx dL_law_88 rfl ?_
    exact r89 _
  · refine dv_iload (pc := 68) cx dL_law_68 rfl ?_
    refine dv_goto (pc := 70) (tgt := 89) cx dL_law_70 (by decide) ?_
    exact r89 _
end DVH2
theorem dv_lcond {L t : Nat} (hL : L ≤ 5000) (ht : 3 * t ≤ L + 3) : (nI L - 3 < nI (3 * t)) ↔ L < 3 * t + 3 := by
  have e1 := pk_sub_toInt (a := L) (b := 3) (by omega) (by decide)
  have e3 : nI 3 = 3 := by decide
  rw [e3] at e1
  rw [Int32.lt_iff_toInt_lt, e1, nI_toInt (by omega)]
  omega
/-- the loop -/
theorem dv_loop {g : dv_P} {p : Program} {l : Launch} {e : Env} {s : State} {m : MethodId} {below : List Frame} {meth : Method} {c : Code} {b L d pa tb a2 a3 a4 : Nat} {xs : Nat → Int32} (cx : CallFix p m c code 17 s #[Value.ref b] lw_all "LegacyDrillLaw") (hr : meth.sig.returnType = ret) (hlocks : meth.locks = false) (C : dv_LC g s b L pa tb a2 a3 a4 xs) :
    ∀ (r t : Nat), 3 * t ≤ L + 2 → L ≤ 3 * (t + r) + 2 → ∀ (o q u : Nat) (ps : List Int32) (kvs : List (Int32 × Int32)) (h : dv_H) (s8 s9 s10 s11 s12 s13 s14 t15 t16 : Slot), o + q + u = t → ps.length ≤ t → kvs.length ≤ q → dv_LI g s L d pa tb a2 a3 a4 ps kvs h → dv_c1 (some s8) = true → dv_c1 (some s9) = true → dv_c1 (some s10) = true → dv_c1 (some s11) = true → dv_c1 (some s12) = true → dv_c1 (some s13) = true → dv_c1 (some s14) = true → dv_c1 (some t15) = true → dv_c1 (some t16) = true →
      dv_LV g p l e s m below meth c b h (dv_kc o q u) (dv_nc o q u) (dv_LF m 33 b d a2 a3 a4 (nI ps.length) (nI kvs.length) (nI (3 * t)) [s8, s9, s10, s11, s12, s13, s14, t15, t16] []) := by
  have hL := C.2.2.2.2.2.1
  have hK := C.1
  intro r
  induction r with
  | zero =>
    intro t ht0 hr0 o q u ps kvs h s8 s9 s10 s11 s12 s13 s14 t15 t16 hoqu hps hkv LI c8 c9 c10 c11 c12 c13 c14 c15 c16
    obtain ⟨f2, f3, f4, I, p2, p3, p4⟩ := LI
    have K2 := dv_kn (o := o) (q := q) (u := u) (by omega)
    refine dv_iload (pc := 33) cx dL_law_33 rfl ?_
    refine dv_aload_n (pc := 35) cx dL_law_35 rfl rfl rfl ?_
    refine dv_xlen cx hK C.2.2.2.2.2.2.1 C.2.2.2.2.2.2.2 I.1 dL_law_36 ?_
    refine dv_iconst (pc := 37) (v := 3) cx dL_law_37 (by decide) ?_
    refine dv_isub (pc := 38) cx dL_law_38 rfl ?_
    refine dv_icmp_gt (tgt := 892) cx dL_law_39 (by decide) (fun _ => ?_) (fun z => absurd ((dv_lcond hL (by omega)).mpr (by omega)) z)
    refine dv_iconst (pc := 892) (v := 1) cx dL_law_892 (by decide) ?_
    intro H locs z1 z2 z3
    exact va_forget (fun y hy => by rw [← C.2.1]; exact z3 y hy) (W.widen K2.1 K2.2 (lw_ret cx.1 cx.2.1 hr hlocks dL_law_893))
  | succ r ih =>
    intro t ht0 hr0 o q u ps kvs h s8 s9 s10 s11 s12 s13 s14 t15 t16 hoqu hps hkv LI c8 c9 c10 c11 c12 c13 c14 c15 c16
    obtain ⟨f2, f3, f4, I, p2, p3, p4⟩ := LI
    refine dv_iload (pc := 33) cx dL_law_33 rfl ?_
    refine dv_aload_n (pc := 35) cx dL_law_35 rfl rfl rfl ?_
    refine dv_xlen cx hK C.2.2.2.2.2.2.1 C.2.2.2.2.2.2.2 I.1 dL_law_36 ?_
    refine dv_iconst (pc := 37) (v := 3) cx dL_law_37 (by decide) ?_
    refine dv_isub (pc := 38) cx dL_law_38 rfl ?_
    refine dv_icmp_gt (tgt := 892) cx dL_law_39 (by decide) (fun _ => ?_) (fun z => ?_)
    · have K2 := dv_kn (o := o) (q := q) (u := u) (by omega)
      refine dv_iconst (pc := 892) (v := 1) cx dL_law_892 (by decide) ?_
      intro H locs z1 z2 z3
      exact va_forget (fun y hy => by rw [← C.2.1]; exact z3 y hy) (W.widen K2.1 K2.2 (lw_ret cx.1 cx.2.1 hr hlocks dL_law_893))
    · have ht : 3 * t + 3 ≤ L := by
        rcases Nat.lt_or_ge L (3 * t + 3) with y | y
        · exact absurd ((dv_lcond hL (by omega)).mpr y) z
        · exact y
      refine dv_head cx C hoqu ht hps hkv I p2 p3 p4 ?_ c15 c16 c8 c9 c10 c11 c12 c13 c14
      intro o' q' u' ps' kvs' h' x8 x9 x10 x11 x12 x13 x14 y15 y16 e1 e2 e3 e4 e5 e6
      refine dv_iinc (v := nI (3 * (t + 1))) cx dL_law_886 rfl (nI_add _ 3) ?_
      refine dv_goto (pc := 889) (tgt := 33) cx dL_law_889 (by decide) ?_
      exact ih (t + 1) (by omega) (by omega) o' q' u' ps' kvs' h' _ _ _ _ _ _ _ y15 y16 e1 e4 e5 e6 rfl rfl rfl rfl rfl rfl rfl e2 e3
end
section
/-! ===== the law: its start ===== -/
set_option maxRecDepth 100000
theorem dv_pv0 {A : Array Value} {s : State} {y : MethodName} {bs : ByteArray} {L : Nat} {r : Option FieldType} (h1 : (Cond.code y bs L r).before A s = true) (h2 : (Cond.privateMethod y).before A s = true) : dv_pv y s := by
  obtain ⟨mk, hn⟩ := Cond.code_named h1
  obtain ⟨mt, c, hm, -⟩ := Cond.code_spec hn h1
  exact ⟨mk, mt, hn, hm, Cond.privateMethod_at h2 mk mt hn hm⟩
set_option maxHeartbeats 4000000 in
/-- what the Statement gives of the start -/
theorem dv_K0 {s : State} {b : Nat} (hts : ∀ w ∈ lw_tbl, w.before #[Value.ref b] s = true) (hgv : (Jvm.Cond.and given_1 narrow_1).before #[Value.ref b] s = true) : ∃ g : dv_P, dv_K g s ∧ dv_lo g = s.heap.size := by
  have ha : ∀ w ∈ lw_all, w.before #[Value.ref b] s = true := fun w h => hts w (List.mem_filter.mp h).1
  have hs := flat_of_before _ hgv
  obtain ⟨c0, i0, k0⟩ := u_known (C := RX0) (T := TX0) (N := 2) (n := 2) ha in_X0 (ha _ q26)
  obtain ⟨c1, i1, k1⟩ := u_known (C := RJ3) (T := TJ3) (N := 4) (n := 4) ha in_J3 (ha _ q34)
  obtain ⟨c2, i2, k2⟩ := u_known (C := RJ5) (T := TJ5) (N := 8) (n := 8) ha in_J5 (ha _ q72)
  obtain ⟨c3, i3, k3⟩ := u_known (C := RJ12) (T := TJ12) (N := 4) (n := 4) ha in_J12 (ha _ q371)
  obtain ⟨c4, i4, k4⟩ := u_known (C := RJ15) (T := TJ15) (N := 8) (n := 8) ha in_J15 (ha _ q458)
  obtain ⟨c5, i5, k5⟩ := u_known (C := RJ9) (T := TJ9) (N := 1) (n := 1) ha in_J9 (ha _ q141)
  obtain ⟨pO, cO, kO, o1, o2, o3, o4, o5⟩ := Cond.arrayOver_spec (hts _ q55)
  obtain ⟨pE, cE, kE, e1, e2, e3, e4, e5⟩ := Cond.arrayOver_spec (hts _ q88)
  obtain ⟨cI, kI, pI, j1, j2, j3⟩ := Cond.arrayClass_spec (ha _ q519)
  have hA : ∀ a : Nat, a < s.heap.size → ¬ (s.heap.size ≤ a) := fun a h1 h2 => by omega
  have hlen : (Term.length (.static "java/lang/Integer$IntegerCache" "cache" "[Ljava/lang/Integer;")).eval #[Value.ref b] s none [] s = some (.int (Int32.ofNat 256)) := Cond.eq_int (hs (Cond.eq (.length (.static "java/lang/Integer$IntegerCache" "cache" "[Ljava/lang/Integer;")) (.int 256)) (by decide +kernel)) rfl
  obtain ⟨ad, hC, hel⟩ := vb_Cof (st := .static "java/lang/Integer$IntegerCache" "cache" "[Ljava/lang/Integer;") (A := fun q => s.heap.size ≤ q) rfl hlen (hs _ (by decide +kernel)) hA
  obtain ⟨ca, hca, hT⟩ := va_Tof (tm := .static "java/lang/Integer$IntegerCache" "cache" "[Ljava/lang/Integer;") (ty := .object "java/lang/Integer") (N := 256) (f := fun j => .ref (ad j)) (A := fun q => s.heap.size ≤ q) (by decide) (hs _ (by decide +kernel)) hlen hel hA
  have hZ1 := va_Zof (A := fun q => s.heap.size ≤ q) (hts _ q137) (ha _ q17) (Cond.eq_int (hs (Cond.eq (.static "java/lang/Integer$IntegerCache" "high" "I") (.int 127)) (by decide +kernel)) rfl) hA
  have hZ2 := va_Zof (A := fun q => s.heap.size ≤ q) (hts _ q139) (ha _ q17) hca hA
  obtain ⟨mi, hmi⟩ := va_Mi.of (hs (Cond.isRef (.mirror "[Ljava/lang/Object;")) (by decide +kernel))
  refine ⟨((fun k => match k with | 0 => c0 | 1 => c1 | 2 => c2 | 3 => c3 | 4 => c4 | 5 => c5 | 10 => cO | 11 => cE | _ => cI, fun k => match k with | 0 => i0 | 1 => i1 | 2 => i2 | 3 => i3 | 4 => i4 | _ => i5), ad, ca, mi, s.heap.size, s.cur), ⟨rfl, Nat.le_refl _, ?_, hZ1, hZ2, hT, hC⟩, rfl⟩
  refine ⟨⟨fun k q hq => ?_, fun k q hq => ?_⟩, va_AO.of (hts _ q55), va_AO.of (hts _ q88), va_Nw.of rfl (hts _ q530), va_Nw.of rfl (hts _ q98), va_Nw.of rfl (hts _ q104), va_Fw.of (hts _ q491) (hts _ q490) (hts _ q502) (hts _ q500) (hts _ q498), va_Fw.of (hts _ q507) (hts _ q506) (hts _ q516) (hts _ q514) (hts _ q498), va_Nw.of rfl (hts _ q284), va_Nw.of rfl (hts _ q348), va_Dc.of (hts _ q536), hmi, dv_pv0 (ha _ q167) (hts _ q164), dv_pv0 (ha _ q171) (hts _ q169), dv_pv0 (ha _ q175) (hts _ q173)⟩
  · match k, hq with
    | 0, hq => cases hq; exact k0
    | 1, hq => cases hq; exact k1
    | 2, hq => cases hq; exact k2
    | 3, hq => cases hq; exact k3
    | 4, hq => cases hq; exact k4
    | 5, hq => cases hq; exact k5
    | k + 6, hq => simp [dv_cl] at hq
  · match k, hq with
    | 0, hq => cases hq; exact ⟨fun N z => ⟨(fun k h => by cases h), kO, o3, pO, o4⟩, kO, pO, o3, o4, o1, o5⟩
    | 1, hq => cases hq; exact ⟨fun N z => ⟨(fun k h => by cases h), kE, e3, pE, e4⟩, kE, pE, e3, e4, e1, e5⟩
    | 2, hq => cases hq; exact ⟨fun N z => ⟨(fun k h => by cases h), kI, j2, pI, j3⟩, j1⟩
    | k + 3, hq => simp [dv_ty] at hq
set_option maxHeartbeats 4000000 in
theorem whole_start {p : Program} {e : Env} {s : State} {m : MethodId} {below : List Frame} {meth : Method} {c : Code} (l : Launch) (hflags : l.flags = flags0) {b L : Nat} {xs : Nat → Int32} (hL : L ≤ 5000) (C0 : lw_At p s m meth c b L xs) : W p l e room_1 s m #[Value.ref b] below meth c s.heap [] 0 0 (lw_Z below #[Value.ref b] s) (entryFrame m ([Value.ref b] : List Value).toArray 17) := by
  obtain ⟨hx, hb, hr, hml, hown, hts, hX, hbl, hlocks, hgv⟩ := C0
  obtain ⟨g, hK, hlo⟩ := dv_K0 hts hgv
  have cx : CallFix p m c code 17 s #[Value.ref b] lw_all "LegacyDrillLaw" := ⟨hx, hb, hml, hown, fun w h => hts w (List.mem_filter.mp h).1⟩
  have ap := hK.ap
  rw [entry_eq m [Value.ref b] (dv_cat rfl) 17]
  have K : dv_LV g p l e s m below meth c b (dv_ct s.heap) 0 0 (dv_G none 0 m 0 (dv_ent [.ref b] 17) []) := by
    refine dv_new (ci := 0) (fs := [.null, .null]) (C := RX0) (T := TX0) (N := 2) cx hK in_X0 rfl tyX0 tyX0_ok q25 q26 q6 (fun j hj => by rcases (show j = 0 ∨ j = 1 by omega) with rfl | rfl <;> rfl) (by decide) (by decide) dL_law_0 (fun d h1 hw1 hlo1 _ ho1 => ?_)
    have f1 : dv_fr (dv_lo g) [] (dv_ct s.heap) h1 := hw1.fr
    refine dv_dup (pc := 3) cx dL_law_3 rfl ?_
    refine dv_cI (rest := [.ref d]) (av := []) cx hK (mt_x_init l g d hlo1) q27 q28 q6 q29 rfl (n9 := 0) ⟨by decide, by decide, by decide +kernel⟩ rfl ⟨⟨_, f1⟩, dv_m0, ho1, (by decide), (by decide)⟩ ⟨⟨Nat.le_of_ble_eq_true rfl, Nat.le_of_ble_eq_true rfl⟩, Nat.le_of_ble_eq_true rfl⟩ rfl rfl dL_law_4 (fun v h2 hS hf2 => ?_)
    obtain ⟨rfl, pa, tb, -, -, lpa, ltb, ho2, hV2, hT2⟩ := hS
    have f2 := dv_frL hlo f1 hf2
    refine dv_astore_n (pc := 7) cx dL_law_7 rfl rfl rfl rfl ?_
    refine dv_aload_n (pc := 8) cx dL_law_8 rfl rfl rfl ?_
    refine dv_xlen cx hK hX (by omega) f2 dL_law_9 ?_
    refine dv_newa (n0 := L) cx hK q519 rfl (by omega) (by show 0 + 1 + 4 + 1 ≤ 1200000; omega) (by show 0 + 2 + 33 + L ≤ 5502250; omega) dL_law_10 (fun a2 h3 hw3 l3 _ ha3 => ?_)
    have g3 : dv_fr (dv_lo g) (dv_kk g []) h2 h3 := hw3.fr
    have f3 := dv_frL hlo f2 g3
    refine dv_astore_n (pc := 12) cx dL_law_12 rfl rfl rfl rfl ?_
    refine dv_aload_n (pc := 13) cx dL_law_13 rfl rfl rfl ?_
    refine dv_xlen cx hK hX (by omega) f3 dL_law_14 ?_
    refine dv_newa (n0 := L) cx hK q519 rfl (by omega) (by show 0 + 1 + 4 + 1 + 1 ≤ 1200000; omega) (by show 0 + 2 + 33 + L + L ≤ 5502250; omega) dL_law_15 (fun a3 h4 hw4 l4 _ ha4 => ?_)
    have g4 : dv_fr (dv_lo g) (dv_kk g []) h3 h4 := hw4.fr
    have f4 := dv_frL hlo f3 g4
    refine dv_astore_n (pc := 17) cx dL_law_17 rfl rfl rfl rfl ?_
    refine dv_aload_n (pc := 18) cx dL_law_18 rfl rfl rfl ?_
    refine dv_xlen cx hK hX (by omega) f4 dL_law_19 ?_
    refine dv_newa (n0 := L) cx hK q519 rfl (by omega) (by show 0 + 1 + 4 + 1 + 1 + 1 ≤ 1200000; omega) (by show 0 + 2 + 33 + L + L + L ≤ 5502250; omega) dL_law_20 (fun a4 h5 hw5 l5 _ ha5 => ?_)
    have g5 : dv_fr (dv_lo g) (dv_kk g []) h4 h5 := hw5.fr
    have f5 := dv_frL hlo f4 g5
    have ha3' := hw5.kp (hw4.kp ha3)
    have ha4' := hw5.kp ha4
    have n23 : a2 ≠ a3 := fun z => by have := hw4.1; rw [← z, ha3] at this; cases this
    have n24 : a2 ≠ a4 := fun z => by have := hw5.1; rw [← z, hw4.kp ha3] at this; cases this
    have n34 : a3 ≠ a4 := fun z => by have := hw5.1; rw [← z, ha4] at this; cases this
    have C : dv_LC g s b L pa tb a2 a3 a4 xs := ⟨hK, hlo, ⟨lpa, ltb⟩, ⟨l3, l4, l5⟩, ⟨n23, n24, n34⟩, hL, hX, by omega⟩
    have nn : ∀ i, dv_k g i ∉ dv_kk g [] := fun i => List.not_mem_nil
    have I : dv_LH g s L d pa tb a2 a3 a4 (fun _ => 0) (fun _ => 0) (fun _ => 0) [] [] h5 := ⟨f5, ⟨ha3', ha4', ha5⟩, ((ho2.fr g3 (nn 0)).fr g4 (nn 0)).fr g5 (nn 0), ((hV2.fr ap g3 (by decide)).fr ap g4 (by decide)).fr ap g5 (by decide), ((hT2.fr ap g3 (by decide)).fr ap g4 (by decide)).fr ap g5 (by decide)⟩
    have np : dv_pf (fun _ => 0) [] := fun i x hx => by cases hx
    refine dv_astore (pc := 22) cx dL_law_22 rfl rfl rfl ?_
    refine dv_iconst (pc := 24) (v := 0) cx dL_law_24 (by decide) ?_
    refine dv_istore (pc := 25) cx dL_law_25 rfl ?_
    refine dv_iconst (pc := 27) (v := 0) cx dL_law_27 (by decide) ?_
    refine dv_istore (pc := 28) cx dL_law_28 rfl ?_
    refine dv_iconst (pc := 30) (v := 0) cx dL_law_30 (by decide) ?_
    refine dv_istore (pc := 31) cx dL_law_31 rfl ?_
    refine dv_widen (k' := dv_kc 0 0 0) (n' := dv_nc 0 0 0) (by decide) (by show 0 + 2 + 33 + L + L + L ≤ 15035 + 3077 * (0 + 0) + 0 * 0 + 8 * 0; omega) ?_
    exact dv_loop cx hr hlocks C L 0 (by omega) (by omega) 0 0 0 [] [] h5 .unset .unset .unset .unset .unset .unset .unset .unset .unset rfl (Nat.le_refl _) (Nat.le_refl _) ⟨_, _, _, I, np, np, np⟩ rfl rfl rfl rfl rfl rfl rfl rfl rfl
  exact K s.heap [] rfl dv_mo.rf (fun q h => by cases h)
end
section
set_option maxHeartbeats 4000000 in
theorem lw_walk (l : Launch) (hflags : l.flags = flags0) (b : Addr) (xs : List Int32) : MetFree l x (headSpec (Jvm.Cond.code x code maxLocals ret :: tables_1) room_1) (lw_P b xs) (fun _ _ _ _ _ => True) lw_Q := by
  refine MetFree.of_bodyS (code := code) (maxLocals := maxLocals) (ret := ret) (by decide) ?_ ?_
  · intro args s m h hn
    obtain ⟨meth, c, h1, h2, h3, h4, h5, h6, -, -⟩ := Cond.code_spec hn (atoms_spec (ws := Jvm.Cond.code x code maxLocals ret :: tables_1) h _ List.mem_cons_self)
    exact ⟨meth, c, h1, h2, h3, h4, h5, h6⟩
  · intro p e s m args below meth c s₁ B hml0 hP _
    obtain ⟨rfl, hx, hbd, hgv⟩ := hP
    obtain ⟨scr, harrAt, hlist, hof, hsmall⟩ := hx
    obtain ⟨hcb, hkn, -, -⟩ := State.arrayAt?_spec harrAt
    have hown : s.vm.findClass R_law = some m.cls := findClass_of_methodNamed B.named
    have hts0 : ∀ c ∈ (Jvm.Cond.code x code maxLocals ret :: tables_1), c.before #[Value.ref b] s = true := atoms_spec (ws := Jvm.Cond.code x code maxLocals ret :: tables_1) B.pre
    have hts : ∀ w ∈ lw_tbl, w.before #[Value.ref b] s = true := k2_hts_sels lw_privs (fun w hw => hts0 w (List.mem_cons_of_mem _ hw)) lw_privs_ok
    have hml : c.maxLocals = 17 := B.maxLocals_eq (hts0 _ List.mem_cons_self)
    have X₀ : Stand p l e room_1 s m #[Value.ref b] below meth c s₁ [] 0 0 := Stand.of_body B
    have hh0 : s₁.heap = s.heap := by rw [B.state]; rfl
    have hsz : scr.slots.size = xs.length := by rw [← Array.length_toList, hlist, List.length_map]
    have hval : ∀ j : Nat, j < xs.length → scr.slots[j]? = some (.int (xs.getD j 0)) := fun j hj => by
      rw [← Array.getElem?_toList, hlist]
      simp [hj]
    have hbl : b < s.heap.size := (Array.getElem?_eq_some_iff.mp hcb).1
    have hX : va_X b xs.length (fun j => xs.getD j 0) s s.heap := ⟨scr, hcb, hof, hkn, hsz, hval⟩
    have K : W p l e room_1 s m #[Value.ref b] below meth c s₁.heap [] 0 0 (lw_Z below #[Value.ref b] s) (entryFrame m ([Value.ref b] : List Value).toArray 17) := by
      rw [hh0]
      exact whole_start l hflags hbd ⟨B.exec, B.bytes, B.returns, hml, hown, hts, hX, hbl, B.notSynchronized, hgv⟩
    obtain ⟨t, a1, o, b1, b2, b3⟩ := K s₁ rfl X₀
    exact ⟨t, o, a1, b1, b2, b3⟩
theorem lw_pre_spec {args : Array Value} {s : State} (h : (Jvm.Cond.and given_1 narrow_1).before args s = true) (hr : rest_1_c.before args s = true) : ∃ (b : Addr) (xs : List Int32), lw_P b xs args s := by
  have hs := flat_of_before _ h
  have hq := flat_of_before _ hr
  have hc : (Cond.count 1).before args s = true := hs _ (by decide +kernel)
  have harr : (Cond.arrayOf (.arg 0) .int).before args s = true := hs _ (by decide +kernel)
  have hle : (Cond.le (.length (.arg 0)) (.int 5000)).before args s = true := hs _ (by decide +kernel)
  have hlen : (Cond.isInt (.length (.arg 0))).before args s = true := hq _ (by decide +kernel)
  have hall : (Cond.all (.arg 0) (.isInt (.elem (.arg 0) (.index 0)))).before args s = true := hq _ (by decide +kernel)
  obtain ⟨b, xs, hb, hx⟩ := State.ints_of_pre rfl harr hlen hall
  have hsm : xs.length < 2 ^ 31 := hx.choose_spec.2.2.2
  have hev : (Term.length (.arg 0)).eval args s none [] s = some (.int xs.length.toInt32) := hx.length_eval hb
  have hv := Cond.le_ints hev (show (Term.int 5000).eval args s none [] s = some (.int 5000) from rfl)
  have hd : xs.length.toInt32 ≤ 5000 := by
    simpa [Cond.before, Cond.holds, hv] using hle
  have hN : xs.length ≤ 5000 := (Int32.ofNat_le_ofNat hsm (by decide)).mp (show Int32.ofNat xs.length ≤ Int32.ofNat 5000 from hd)
  exact ⟨b, xs, Cond.one_arg hc (show args[0]? = some (.ref b) from hb), hx, hN, h⟩
theorem lw_comes (l : Launch) (hflags : l.flags = flags0) : Comes l x (Jvm.Cond.code x code maxLocals ret :: tables_1) room_1 (fun tb e args s => Calls_1 tb e args s ∧ rest_1 tb e args s ∧ Pre_1 tb e args s)
    (fun _ _ args s o t => lw_Q args s o t) := by
  intro p e ha hc hk s m args below hf hfit hheap happ hpre
  obtain ⟨b, xs, hP⟩ := lw_pre_spec hpre.2.2 hpre.2.1
  obtain ⟨k, o, h1, h2, h3, hQ⟩ := lw_walk l hflags b xs p e ha hc hk s m args below hf ((Spec.applies_iff_loose hf).mp happ).1 hP trivial
  exact ⟨k, o, h1, h2, h3, hQ⟩
theorem lw_frame {s t : State} {o : Outcome} {args : Array Value} (h : Framed s o t [] 1200000 5502250) :
    Framed s o t (fieldLocs frame_1_writes args s ++ arrayLocs frame_1_arrays args s ++ staticLocs frame_1_statics s) 1200000 5502250 := h
theorem lw_limb (L : Cond) (hL : ∀ (args : Array Value) (s t : State), L.after args s (.returned (some (.int 1))) t = true) :
    ArmFor flags0 classFile x code maxLocals ret World_1 tables_1 room_1 Calls_1 rest_1 Pre_1
      (fun tb e a s o t => postC L tb e a s o t ∧ Framed s o t (fieldLocs frame_1_writes a s ++ arrayLocs frame_1_arrays a s ++ staticLocs frame_1_statics s) 1200000 5502250) := by
  intro l hflags _ _ p e ha hc hk s m args below hf hfit hheap happ hpre
  obtain ⟨k, o, h1, h2, h3, rfl, hF⟩ := lw_comes l hflags p e ha hc hk s m args below hf hfit hheap happ hpre
  exact ⟨k, _, h1, h2, h3, hL args s _, lw_frame hF⟩
theorem i_vc : Claimed_1_1 ∧ Claimed_1_2 := ⟨lw_limb limb_1_1 (fun args s t => by simp [limb_1_1, Cond.after, Cond.holds, Cond.value]), lw_limb limb_1_2 (fun args s t => Cond.after_iff.mpr (by
  first | (rw [show limb_1_2 = Cond.eq .result (.int 1) from rfl, Cond.eq_ints (x := 1) (y := 1) rfl rfl]; simp; done) | (simp [limb_1_2, Cond.value, Term.eval]; done)))⟩
end
