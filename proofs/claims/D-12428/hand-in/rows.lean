section
/-- a picture of one terminal: field, place, number -/
abbrev tm_T : Type := Nat → Nat → Nat
def tm_up (T : tm_T) (f i v : Nat) : tm_T := fun g j => if g = f ∧ j = i then v else T g j
theorem tm_upS (T : tm_T) (f i v : Nat) : tm_up T f i v f i = v := if_pos ⟨rfl, rfl⟩
theorem tm_upF (T : tm_T) {f i v g j : Nat} (h : g ≠ f) : tm_up T f i v g j = T g j := if_neg (fun z => h z.1)
theorem tm_upI (T : tm_T) {f i v g j : Nat} (h : j ≠ i) : tm_up T f i v g j = T g j := if_neg (fun z => h z.2)
/-- terminal t of the state is as the picture says (27: the numbers of the list count) -/
def tm_Sl (u : St1) (t : Nat) (T : tm_T) : Prop := match u with
  | (at_, kc, kn, a1, a2, a3, a4, a5, a6, a7, a8, a9, a10, a11, a12, a13, a14, a15, a16, a17, a18, a19, a20, a21, a22, a23, a24) => (∀ j, j < 144 → a1 (t * 144 + j) = nI (T 1 j)) ∧ (∀ j, j < 144 → a2 (t * 144 + j) = nI (T 2 j)) ∧ (∀ j, j < 12 → a3 (t * 12 + j) = nI (T 3 j)) ∧
    a4 t = nI (T 4 0) ∧
    a5 t = nI (T 5 0) ∧
    a6 t = nI (T 6 0) ∧
    a7 t = nI (T 7 0) ∧
    a8 t = nI (T 8 0) ∧
    a9 t = nI (T 9 0) ∧
    a10 t = nI (T 10 0) ∧
    a11 t = nI (T 11 0) ∧
    a12 t = nI (T 12 0) ∧
    a13 t = nI (T 13 0) ∧
    a14 t = nI (T 14 0) ∧
    a15 t = nI (T 15 0) ∧
    a16 t = nI (T 16 0) ∧
    a17 t = nI (T 17 0) ∧
    a18 t = nI (T 18 0) ∧
    a19 t = nI (T 19 0) ∧
    a20 t = nI (T 20 0) ∧
    (T 27 0 = 1 → a21 t = nI (T 21 0) ∧ a22 t = nI (T 22 0) ∧ ∀ i, i < 4 → i < T 22 0 → a23 (t * 4 + i) = nI (T 23 i)) ∧
    (t = 0 → kc = nI (T 25 0) ∧ kn = nI (T 26 0) ∧ ∀ j, j < 96 → a24 j = nI (T 24 j))
def tm_R (u : St1) (t : Nat) (T O : tm_T) : Prop := u.1 = nI t ∧ t < 2 ∧ tm_Sl u t T ∧ tm_Sl u (1 - t) O
theorem tm_nb : ∀ n, n < 128 → (nI n).toInt8.toInt32 = nI n := by decide +kernel
theorem tm_nz : ∀ n, n < 2 → vp_nar .boolean (nI n) = nI n := by decide +kernel
theorem tm_nb' {x : Int32} {n : Nat} (h : n < 128) (e : x = nI n) : x.toInt8.toInt32 = nI n := by
  rw [e]
  exact tm_nb n h
theorem tm_nc' {x : Int32} {n : Nat} (h : n < 128) (e : x = nI n) : vp_nar .byte x = nI n := by
  rw [e]
  exact tm_nb n h
theorem tm_nz' {x : Int32} {n : Nat} (h : n < 2) (e : x = nI n) : vp_nar .boolean x = nI n := by
  rw [e]
  exact tm_nz n h
section
variable {at_ kc kn : Int32} {a1 a2 a3 a4 a5 a6 a7 a8 a9 a10 a11 a12 a13 a14 a15 a16 a17 a18 a19 a20 a21 a22 a23 a24 : Nat → Int32} {t : Nat} {T O : tm_T}
theorem tm_at (h : tm_R (at_, kc, kn, a1, a2, a3, a4, a5, a6, a7, a8, a9, a10, a11, a12, a13, a14, a15, a16, a17, a18, a19, a20, a21, a22, a23, a24) t T O) : at_ = nI t := h.1
theorem tm_lt (h : tm_R (at_, kc, kn, a1, a2, a3, a4, a5, a6, a7, a8, a9, a10, a11, a12, a13, a14, a15, a16, a17, a18, a19, a20, a21, a22, a23, a24) t T O) : t < 2 := h.2.1
theorem tm_cl (h : tm_R (at_, kc, kn, a1, a2, a3, a4, a5, a6, a7, a8, a9, a10, a11, a12, a13, a14, a15, a16, a17, a18, a19, a20, a21, a22, a23, a24) t T O) : at_.toNatClampNeg = t := by
  rw [tm_at h]
  exact nI_clamp (by have := h.2.1; omega)
theorem tm_in (h : tm_R (at_, kc, kn, a1, a2, a3, a4, a5, a6, a7, a8, a9, a10, a11, a12, a13, a14, a15, a16, a17, a18, a19, a20, a21, a22, a23, a24) t T O) : vp_in at_ 2 := pk_in t 2 h.2.1 h.1
theorem tm_s1 (h : tm_Sl (at_, kc, kn, a1, a2, a3, a4, a5, a6, a7, a8, a9, a10, a11, a12, a13, a14, a15, a16, a17, a18, a19, a20, a21, a22, a23, a24) t T) : ∀ j, j < 144 → a1 (t * 144 + j) = nI (T 1 j) := h.1
theorem tm_s2 (h : tm_Sl (at_, kc, kn, a1, a2, a3, a4, a5, a6, a7, a8, a9, a10, a11, a12, a13, a14, a15, a16, a17, a18, a19, a20, a21, a22, a23, a24) t T) : ∀ j, j < 144 → a2 (t * 144 + j) = nI (T 2 j) := h.2.1
theorem tm_s3 (h : tm_Sl (at_, kc, kn, a1, a2, a3, a4, a5, a6, a7, a8, a9, a10, a11, a12, a13, a14, a15, a16, a17, a18, a19, a20, a21, a22, a23, a24) t T) : ∀ j, j < 12 → a3 (t * 12 + j) = nI (T 3 j) := h.2.2.1
theorem tm_s4 (h : tm_Sl (at_, kc, kn, a1, a2, a3, a4, a5, a6, a7, a8, a9, a10, a11, a12, a13, a14, a15, a16, a17, a18, a19, a20, a21, a22, a23, a24) t T) : a4 t = nI (T 4 0) := by
  obtain ⟨h1, h2, h3, h4, h5, h6, h7, h8, h9, h10, h11, h12, h13, h14, h15, h16, h17, h18, h19, h20, hn, hk⟩ := h
  exact h4
theorem tm_s5 (h : tm_Sl (at_, kc, kn, a1, a2, a3, a4, a5, a6, a7, a8, a9, a10, a11, a12, a13, a14, a15, a16, a17, a18, a19, a20, a21, a22, a23, a24) t T) : a5 t = nI (T 5 0) := by
  obtain ⟨h1, h2, h3, h4, h5, h6, h7, h8, h9, h10, h11, h12, h13, h14, h15, h16, h17, h18, h19, h20, hn, hk⟩ := h
  exact h5
theorem tm_s6 (h : tm_Sl (at_, kc, kn, a1, a2, a3, a4, a5, a6, a7, a8, a9, a10, a11, a12, a13, a14, a15, a16, a17, a18, a19, a20, a21, a22, a23, a24) t T) : a6 t = nI (T 6 0) := by
  obtain ⟨h1, h2, h3, h4, h5, h6, h7, h8, h9, h10, h11, h12, h13, h14, h15, h16, h17, h18, h19, h20, hn, hk⟩ := h
  exact h6
theorem tm_s7 (h : tm_Sl (at_, kc, kn, a1, a2, a3, a4, a5, a6, a7, a8, a9, a10, a11, a12, a13, a14, a15, a16, a17, a18, a19, a20, a21, a22, a23, a24) t T) : a7 t = nI (T 7 0) := by
  obtain ⟨h1, h2, h3, h4, h5, h6, h7, h8, h9, h10, h11, h12, h13, h14, h15, h16, h17, h18, h19, h20, hn, hk⟩ := h
  exact h7
theorem tm_s8 (h : tm_Sl (at_, kc, kn, a1, a2, a3, a4, a5, a6, a7, a8, a9, a10, a11, a12, a13, a14, a15, a16, a17, a18, a19, a20, a21, a22, a23, a24) t T) : a8 t = nI (T 8 0) := by
  obtain ⟨h1, h2, h3, h4, h5, h6, h7, h8, h9, h10, h11, h12, h13, h14, h15, h16, h17, h18, h19, h20, hn, hk⟩ := h
  exact h8
theorem tm_s9 (h : tm_Sl (at_, kc, kn, a1, a2, a3, a4, a5, a6, a7, a8, a9, a10, a11, a12, a13, a14, a15, a16, a17, a18, a19, a20, a21, a22, a23, a24) t T) : a9 t = nI (T 9 0) := by
  obtain ⟨h1, h2, h3, h4, h5, h6, h7, h8, h9, h10, h11, h12, h13, h14, h15, h16, h17, h18, h19, h20, hn, hk⟩ := h
  exact h9
theorem tm_s10 (h : tm_Sl (at_, kc, kn, a1, a2, a3, a4, a5, a6, a7, a8, a9, a10, a11, a12, a13, a14, a15, a16, a17, a18, a19, a20, a21, a22, a23, a24) t T) : a10 t = nI (T 10 0) := by
  obtain ⟨h1, h2, h3, h4, h5, h6, h7, h8, h9, h10, h11, h12, h13, h14, h15, h16, h17, h18, h19, h20, hn, hk⟩ := h
  exact h10
theorem tm_s11 (h : tm_Sl (at_, kc, kn, a1, a2, a3, a4, a5, a6, a7, a8, a9, a10, a11, a12, a13, a14, a15, a16, a17, a18, a19, a20, a21, a22, a23, a24) t T) : a11 t = nI (T 11 0) := by
  obtain ⟨h1, h2, h3, h4, h5, h6, h7, h8, h9, h10, h11, h12, h13, h14, h15, h16, h17, h18, h19, h20, hn, hk⟩ := h
  exact h11
theorem tm_s12 (h : tm_Sl (at_, kc, kn, a1, a2, a3, a4, a5, a6, a7, a8, a9, a10, a11, a12, a13, a14, a15, a16, a17, a18, a19, a20, a21, a22, a23, a24) t T) : a12 t = nI (T 12 0) := by
  obtain ⟨h1, h2, h3, h4, h5, h6, h7, h8, h9, h10, h11, h12, h13, h14, h15, h16, h17, h18, h19, h20, hn, hk⟩ := h
  exact h12
theorem tm_s13 (h : tm_Sl (at_, kc, kn, a1, a2, a3, a4, a5, a6, a7, a8, a9, a10, a11, a12, a13, a14, a15, a16, a17, a18, a19, a20, a21, a22, a23, a24) t T) : a13 t = nI (T 13 0) := by
  obtain ⟨h1, h2, h3, h4, h5, h6, h7, h8, h9, h10, h11, h12, h13, h14, h15, h16, h17, h18, h19, h20, hn, hk⟩ := h
  exact h13
theorem tm_s14 (h : tm_Sl (at_, kc, kn, a1, a2, a3, a4, a5, a6, a7, a8, a9, a10, a11, a12, a13, a14, a15, a16, a17, a18, a19, a20, a21, a22, a23, a24) t T) : a14 t = nI (T 14 0) := by
  obtain ⟨h1, h2, h3, h4, h5, h6, h7, h8, h9, h10, h11, h12, h13, h14, h15, h16, h17, h18, h19, h20, hn, hk⟩ := h
  exact h14
theorem tm_s15 (h : tm_Sl (at_, kc, kn, a1, a2, a3, a4, a5, a6, a7, a8, a9, a10, a11, a12, a13, a14, a15, a16, a17, a18, a19, a20, a21, a22, a23, a24) t T) : a15 t = nI (T 15 0) := by
  obtain ⟨h1, h2, h3, h4, h5, h6, h7, h8, h9, h10, h11, h12, h13, h14, h15, h16, h17, h18, h19, h20, hn, hk⟩ := h
  exact h15
theorem tm_s16 (h : tm_Sl (at_, kc, kn, a1, a2, a3, a4, a5, a6, a7, a8, a9, a10, a11, a12, a13, a14, a15, a16, a17, a18, a19, a20, a21, a22, a23, a24) t T) : a16 t = nI (T 16 0) := by
  obtain ⟨h1, h2, h3, h4, h5, h6, h7, h8, h9, h10, h11, h12, h13, h14, h15, h16, h17, h18, h19, h20, hn, hk⟩ := h
  exact h16
theorem tm_s17 (h : tm_Sl (at_, kc, kn, a1, a2, a3, a4, a5, a6, a7, a8, a9, a10, a11, a12, a13, a14, a15, a16, a17, a18, a19, a20, a21, a22, a23, a24) t T) : a17 t = nI (T 17 0) := by
  obtain ⟨h1, h2, h3, h4, h5, h6, h7, h8, h9, h10, h11, h12, h13, h14, h15, h16, h17, h18, h19, h20, hn, hk⟩ := h
  exact h17
theorem tm_s18 (h : tm_Sl (at_, kc, kn, a1, a2, a3, a4, a5, a6, a7, a8, a9, a10, a11, a12, a13, a14, a15, a16, a17, a18, a19, a20, a21, a22, a23, a24) t T) : a18 t = nI (T 18 0) := by
  obtain ⟨h1, h2, h3, h4, h5, h6, h7, h8, h9, h10, h11, h12, h13, h14, h15, h16, h17, h18, h19, h20, hn, hk⟩ := h
  exact h18
theorem tm_s19 (h : tm_Sl (at_, kc, kn, a1, a2, a3, a4, a5, a6, a7, a8, a9, a10, a11, a12, a13, a14, a15, a16, a17, a18, a19, a20, a21, a22, a23, a24) t T) : a19 t = nI (T 19 0) := by
  obtain ⟨h1, h2, h3, h4, h5, h6, h7, h8, h9, h10, h11, h12, h13, h14, h15, h16, h17, h18, h19, h20, hn, hk⟩ := h
  exact h19
theorem tm_s20 (h : tm_Sl (at_, kc, kn, a1, a2, a3, a4, a5, a6, a7, a8, a9, a10, a11, a12, a13, a14, a15, a16, a17, a18, a19, a20, a21, a22, a23, a24) t T) : a20 t = nI (T 20 0) := by
  obtain ⟨h1, h2, h3, h4, h5, h6, h7, h8, h9, h10, h11, h12, h13, h14, h15, h16, h17, h18, h19, h20, hn, hk⟩ := h
  exact h20
theorem tm_sn (h : tm_Sl (at_, kc, kn, a1, a2, a3, a4, a5, a6, a7, a8, a9, a10, a11, a12, a13, a14, a15, a16, a17, a18, a19, a20, a21, a22, a23, a24) t T) : T 27 0 = 1 → a21 t = nI (T 21 0) ∧ a22 t = nI (T 22 0) ∧ ∀ i, i < 4 → i < T 22 0 → a23 (t * 4 + i) = nI (T 23 i) := by
  obtain ⟨h1, h2, h3, h4, h5, h6, h7, h8, h9, h10, h11, h12, h13, h14, h15, h16, h17, h18, h19, h20, hn, hk⟩ := h
  exact hn
theorem tm_sk (h : tm_Sl (at_, kc, kn, a1, a2, a3, a4, a5, a6, a7, a8, a9, a10, a11, a12, a13, a14, a15, a16, a17, a18, a19, a20, a21, a22, a23, a24) t T) : t = 0 → kc = nI (T 25 0) ∧ kn = nI (T 26 0) ∧ ∀ j, j < 96 → a24 j = nI (T 24 j) := by
  obtain ⟨h1, h2, h3, h4, h5, h6, h7, h8, h9, h10, h11, h12, h13, h14, h15, h16, h17, h18, h19, h20, hn, hk⟩ := h
  exact hk
theorem tm_sw4 (v : Nat) (h : tm_Sl (at_, kc, kn, a1, a2, a3, a4, a5, a6, a7, a8, a9, a10, a11, a12, a13, a14, a15, a16, a17, a18, a19, a20, a21, a22, a23, a24) t T) : tm_Sl (at_, kc, kn, a1, a2, a3, upd a4 t (nI v), a5, a6, a7, a8, a9, a10, a11, a12, a13, a14, a15, a16, a17, a18, a19, a20, a21, a22, a23, a24) t (tm_up T 4 0 v) := by
  obtain ⟨h1, h2, h3, h4, h5, h6, h7, h8, h9, h10, h11, h12, h13, h14, h15, h16, h17, h18, h19, h20, hn, hk⟩ := h
  exact (And.intro (h1) (And.intro (h2) (And.intro (h3) (And.intro (pk_us) (And.intro (h5) (And.intro (h6) (And.intro (h7) (And.intro (h8) (And.intro (h9) (And.intro (h10) (And.intro (h11) (And.intro (h12) (And.intro (h13) (And.intro (h14) (And.intro (h15) (And.intro (h16) (And.intro (h17) (And.intro (h18) (And.intro (h19) (And.intro (h20) (And.intro (hn) (hk))))))))))))))))))))))
theorem tm_so4 (d : Nat) (x : Int32) (hd : t ≠ d) (h : tm_Sl (at_, kc, kn, a1, a2, a3, a4, a5, a6, a7, a8, a9, a10, a11, a12, a13, a14, a15, a16, a17, a18, a19, a20, a21, a22, a23, a24) t T) : tm_Sl (at_, kc, kn, a1, a2, a3, upd a4 d x, a5, a6, a7, a8, a9, a10, a11, a12, a13, a14, a15, a16, a17, a18, a19, a20, a21, a22, a23, a24) t T := by
  obtain ⟨h1, h2, h3, h4, h5, h6, h7, h8, h9, h10, h11, h12, h13, h14, h15, h16, h17, h18, h19, h20, hn, hk⟩ := h
  exact (And.intro (h1) (And.intro (h2) (And.intro (h3) (And.intro ((pk_un hd).trans h4) (And.intro (h5) (And.intro (h6) (And.intro (h7) (And.intro (h8) (And.intro (h9) (And.intro (h10) (And.intro (h11) (And.intro (h12) (And.intro (h13) (And.intro (h14) (And.intro (h15) (And.intro (h16) (And.intro (h17) (And.intro (h18) (And.intro (h19) (And.intro (h20) (And.intro (hn) (hk))))))))))))))))))))))
theorem tm_r4 (h : tm_R (at_, kc, kn, a1, a2, a3, a4, a5, a6, a7, a8, a9, a10, a11, a12, a13, a14, a15, a16, a17, a18, a19, a20, a21, a22, a23, a24) t T O) : a4 at_.toNatClampNeg = nI (T 4 0) := by
  rw [tm_cl h]
  exact tm_s4 h.2.2.1
theorem tm_w4 {x : Nat → Int32} {y : Int32} {v : Nat} (h : tm_R (at_, kc, kn, a1, a2, a3, a4, a5, a6, a7, a8, a9, a10, a11, a12, a13, a14, a15, a16, a17, a18, a19, a20, a21, a22, a23, a24) t T O) (e : x = upd a4 at_.toNatClampNeg y) (hy : y = nI v) : tm_R (at_, kc, kn, a1, a2, a3, x, a5, a6, a7, a8, a9, a10, a11, a12, a13, a14, a15, a16, a17, a18, a19, a20, a21, a22, a23, a24) t (tm_up T 4 0 v) O := by
  subst e hy
  rw [tm_cl h]
  exact (And.intro (h.1) (And.intro (h.2.1) (And.intro (tm_sw4 v h.2.2.1) (tm_so4 t _ (by have := h.2.1; omega) h.2.2.2))))
theorem tm_sw5 (v : Nat) (h : tm_Sl (at_, kc, kn, a1, a2, a3, a4, a5, a6, a7, a8, a9, a10, a11, a12, a13, a14, a15, a16, a17, a18, a19, a20, a21, a22, a23, a24) t T) : tm_Sl (at_, kc, kn, a1, a2, a3, a4, upd a5 t (nI v), a6, a7, a8, a9, a10, a11, a12, a13, a14, a15, a16, a17, a18, a19, a20, a21, a22, a23, a24) t (tm_up T 5 0 v) := by
  obtain ⟨h1, h2, h3, h4, h5, h6, h7, h8, h9, h10, h11, h12, h13, h14, h15, h16, h17, h18, h19, h20, hn, hk⟩ := h
  exact (And.intro (h1) (And.intro (h2) (And.intro (h3) (And.intro (h4) (And.intro (pk_us) (And.intro (h6) (And.intro (h7) (And.intro (h8) (And.intro (h9) (And.intro (h10) (And.intro (h11) (And.intro (h12) (And.intro (h13) (And.intro (h14) (And.intro (h15) (And.intro (h16) (And.intro (h17) (And.intro (h18) (And.intro (h19) (And.intro (h20) (And.intro (hn) (hk))))))))))))))))))))))
theorem tm_so5 (d : Nat) (x : Int32) (hd : t ≠ d) (h : tm_Sl (at_, kc, kn, a1, a2, a3, a4, a5, a6, a7, a8, a9, a10, a11, a12, a13, a14, a15, a16, a17, a18, a19, a20, a21, a22, a23, a24) t T) : tm_Sl (at_, kc, kn, a1, a2, a3, a4, upd a5 d x, a6, a7, a8, a9, a10, a11, a12, a13, a14, a15, a16, a17, a18, a19, a20, a21, a22, a23, a24) t T := by
  obtain ⟨h1, h2, h3, h4, h5, h6, h7, h8, h9, h10, h11, h12, h13, h14, h15, h16, h17, h18, h19, h20, hn, hk⟩ := h
  exact (And.intro (h1) (And.intro (h2) (And.intro (h3) (And.intro (h4) (And.intro ((pk_un hd).trans h5) (And.intro (h6) (And.intro (h7) (And.intro (h8) (And.intro (h9) (And.intro (h10) (And.intro (h11) (And.intro (h12) (And.intro (h13) (And.intro (h14) (And.intro (h15) (And.intro (h16) (And.intro (h17) (And.intro (h18) (And.intro (h19) (And.intro (h20) (And.intro (hn) (hk))))))))))))))))))))))
theorem tm_r5 (h : tm_R (at_, kc, kn, a1, a2, a3, a4, a5, a6, a7, a8, a9, a10, a11, a12, a13, a14, a15, a16, a17, a18, a19, a20, a21, a22, a23, a24) t T O) : a5 at_.toNatClampNeg = nI (T 5 0) := by
  rw [tm_cl h]
  exact tm_s5 h.2.2.1
theorem tm_w5 {x : Nat → Int32} {y : Int32} {v : Nat} (h : tm_R (at_, kc, kn, a1, a2, a3, a4, a5, a6, a7, a8, a9, a10, a11, a12, a13, a14, a15, a16, a17, a18, a19, a20, a21, a22, a23, a24) t T O) (e : x = upd a5 at_.toNatClampNeg y) (hy : y = nI v) : tm_R (at_, kc, kn, a1, a2, a3, a4, x, a6, a7, a8, a9, a10, a11, a12, a13, a14, a15, a16, a17, a18, a19, a20, a21, a22, a23, a24) t (tm_up T 5 0 v) O := by
  subst e hy
  rw [tm_cl h]
  exact (And.intro (h.1) (And.intro (h.2.1) (And.intro (tm_sw5 v h.2.2.1) (tm_so5 t _ (by have := h.2.1; omega) h.2.2.2))))
theorem tm_sw6 (v : Nat) (h : tm_Sl (at_, kc, kn, a1, a2, a3, a4, a5, a6, a7, a8, a9, a10, a11, a12, a13, a14, a15, a16, a17, a18, a19, a20, a21, a22, a23, a24) t T) : tm_Sl (at_, kc, kn, a1, a2, a3, a4, a5, upd a6 t (nI v), a7, a8, a9, a10, a11, a12, a13, a14, a15, a16, a17, a18, a19, a20, a21, a22, a23, a24) t (tm_up T 6 0 v) := by
  obtain ⟨h1, h2, h3, h4, h5, h6, h7, h8, h9, h10, h11, h12, h13, h14, h15, h16, h17, h18, h19, h20, hn, hk⟩ := h
  exact (And.intro (h1) (And.intro (h2) (And.intro (h3) (And.intro (h4) (And.intro (h5) (And.intro (pk_us) (And.intro (h7) (And.intro (h8) (And.intro (h9) (And.intro (h10) (And.intro (h11) (And.intro (h12) (And.intro (h13) (And.intro (h14) (And.intro (h15) (And.intro (h16) (And.intro (h17) (And.intro (h18) (And.intro (h19) (And.intro (h20) (And.intro (hn) (hk))))))))))))))))))))))
theorem tm_so6 (d : Nat) (x : Int32) (hd : t ≠ d) (h : tm_Sl (at_, kc, kn, a1, a2, a3, a4, a5, a6, a7, a8, a9, a10, a11, a12, a13, a14, a15, a16, a17, a18, a19, a20, a21, a22, a23, a24) t T) : tm_Sl (at_, kc, kn, a1, a2, a3, a4, a5, upd a6 d x, a7, a8, a9, a10, a11, a12, a13, a14, a15, a16, a17, a18, a19, a20, a21, a22, a23, a24) t T := by
  obtain ⟨h1, h2, h3, h4, h5, h6, h7, h8, h9, h10, h11, h12, h13, h14, h15, h16, h17, h18, h19, h20, hn, hk⟩ := h
  exact (And.intro (h1) (And.intro (h2) (And.intro (h3) (And.intro (h4) (And.intro (h5) (And.intro ((pk_un hd).trans h6) (And.intro (h7) (And.intro (h8) (And.intro (h9) (And.intro (h10) (And.intro (h11) (And.intro (h12) (And.intro (h13) (And.intro (h14) (And.intro (h15) (And.intro (h16) (And.intro (h17) (And.intro (h18) (And.intro (h19) (And.intro (h20) (And.intro (hn) (hk))))))))))))))))))))))
theorem tm_r6 (h : tm_R (at_, kc, kn, a1, a2, a3, a4, a5, a6, a7, a8, a9, a10, a11, a12, a13, a14, a15, a16, a17, a18, a19, a20, a21, a22, a23, a24) t T O) : a6 at_.toNatClampNeg = nI (T 6 0) := by
  rw [tm_cl h]
  exact tm_s6 h.2.2.1
theorem tm_w6 {x : Nat → Int32} {y : Int32} {v : Nat} (h : tm_R (at_, kc, kn, a1, a2, a3, a4, a5, a6, a7, a8, a9, a10, a11, a12, a13, a14, a15, a16, a17, a18, a19, a20, a21, a22, a23, a24) t T O) (e : x = upd a6 at_.toNatClampNeg y) (hy : y = nI v) : tm_R (at_, kc, kn, a1, a2, a3, a4, a5, x, a7, a8, a9, a10, a11, a12, a13, a14, a15, a16, a17, a18, a19, a20, a21, a22, a23, a24) t (tm_up T 6 0 v) O := by
  subst e hy
  rw [tm_cl h]
  exact (And.intro (h.1) (And.intro (h.2.1) (And.intro (tm_sw6 v h.2.2.1) (tm_so6 t _ (by have := h.2.1; omega) h.2.2.2))))
theorem tm_sw7 (v : Nat) (h : tm_Sl (at_, kc, kn, a1, a2, a3, a4, a5, a6, a7, a8, a9, a10, a11, a12, a13, a14, a15, a16, a17, a18, a19, a20, a21, a22, a23, a24) t T) : tm_Sl (at_, kc, kn, a1, a2, a3, a4, a5, a6, upd a7 t (nI v), a8, a9, a10, a11, a12, a13, a14, a15, a16, a17, a18, a19, a20, a21, a22, a23, a24) t (tm_up T 7 0 v) := by
  obtain ⟨h1, h2, h3, h4, h5, h6, h7, h8, h9, h10, h11, h12, h13, h14, h15, h16, h17, h18, h19, h20, hn, hk⟩ := h
  exact (And.intro (h1) (And.intro (h2) (And.intro (h3) (And.intro (h4) (And.intro (h5) (And.intro (h6) (And.intro (pk_us) (And.intro (h8) (And.intro (h9) (And.intro (h10) (And.intro (h11) (And.intro (h12) (And.intro (h13) (And.intro (h14) (And.intro (h15) (And.intro (h16) (And.intro (h17) (And.intro (h18) (And.intro (h19) (And.intro (h20) (And.intro (hn) (hk))))))))))))))))))))))
theorem tm_so7 (d : Nat) (x : Int32) (hd : t ≠ d) (h : tm_Sl (at_, kc, kn, a1, a2, a3, a4, a5, a6, a7, a8, a9, a10, a11, a12, a13, a14, a15, a16, a17, a18, a19, a20, a21, a22, a23, a24) t T) : tm_Sl (at_, kc, kn, a1, a2, a3, a4, a5, a6, upd a7 d x, a8, a9, a10, a11, a12, a13, a14, a15, a16, a17, a18, a19, a20, a21, a22, a23, a24) t T := by
  obtain ⟨h1, h2, h3, h4, h5, h6, h7, h8, h9, h10, h11, h12, h13, h14, h15, h16, h17, h18, h19, h20, hn, hk⟩ := h
  exact (And.intro (h1) (And.intro (h2) (And.intro (h3) (And.intro (h4) (And.intro (h5) (And.intro (h6) (And.intro ((pk_un hd).trans h7) (And.intro (h8) (And.intro (h9) (And.intro (h10) (And.intro (h11) (And.intro (h12) (And.intro (h13) (And.intro (h14) (And.intro (h15) (And.intro (h16) (And.intro (h17) (And.intro (h18) (And.intro (h19) (And.intro (h20) (And.intro (hn) (hk))))))))))))))))))))))
theorem tm_r7 (h : tm_R (at_, kc, kn, a1, a2, a3, a4, a5, a6, a7, a8, a9, a10, a11, a12, a13, a14, a15, a16, a17, a18, a19, a20, a21, a22, a23, a24) t T O) : a7 at_.toNatClampNeg = nI (T 7 0) := by
  rw [tm_cl h]
  exact tm_s7 h.2.2.1
theorem tm_w7 {x : Nat → Int32} {y : Int32} {v : Nat} (h : tm_R (at_, kc, kn, a1, a2, a3, a4, a5, a6, a7, a8, a9, a10, a11, a12, a13, a14, a15, a16, a17, a18, a19, a20, a21, a22, a23, a24) t T O) (e : x = upd a7 at_.toNatClampNeg y) (hy : y = nI v) : tm_R (at_, kc, kn, a1, a2, a3, a4, a5, a6, x, a8, a9, a10, a11, a12, a13, a14, a15, a16, a17, a18, a19, a20, a21, a22, a23, a24) t (tm_up T 7 0 v) O := by
  subst e hy
  rw [tm_cl h]
  exact (And.intro (h.1) (And.intro (h.2.1) (And.intro (tm_sw7 v h.2.2.1) (tm_so7 t _ (by have := h.2.1; omega) h.2.2.2))))
theorem tm_sw8 (v : Nat) (h : tm_Sl (at_, kc, kn, a1, a2, a3, a4, a5, a6, a7, a8, a9, a10, a11, a12, a13, a14, a15, a16, a17, a18, a19, a20, a21, a22, a23, a24) t T) : tm_Sl (at_, kc, kn, a1, a2, a3, a4, a5, a6, a7, upd a8 t (nI v), a9, a10, a11, a12, a13, a14, a15, a16, a17, a18, a19, a20, a21, a22, a23, a24) t (tm_up T 8 0 v) := by
  obtain ⟨h1, h2, h3, h4, h5, h6, h7, h8, h9, h10, h11, h12, h13, h14, h15, h16, h17, h18, h19, h20, hn, hk⟩ := h
  exact (And.intro (h1) (And.intro (h2) (And.intro (h3) (And.intro (h4) (And.intro (h5) (And.intro (h6) (And.intro (h7) (And.intro (pk_us) (And.intro (h9) (And.intro (h10) (And.intro (h11) (And.intro (h12) (And.intro (h13) (And.intro (h14) (And.intro (h15) (And.intro (h16) (And.intro (h17) (And.intro (h18) (And.intro (h19) (And.intro (h20) (And.intro (hn) (hk))))))))))))))))))))))
theorem tm_so8 (d : Nat) (x : Int32) (hd : t ≠ d) (h : tm_Sl (at_, kc, kn, a1, a2, a3, a4, a5, a6, a7, a8, a9, a10, a11, a12, a13, a14, a15, a16, a17, a18, a19, a20, a21, a22, a23, a24) t T) : tm_Sl (at_, kc, kn, a1, a2, a3, a4, a5, a6, a7, upd a8 d x, a9, a10, a11, a12, a13, a14, a15, a16, a17, a18, a19, a20, a21, a22, a23, a24) t T := by
  obtain ⟨h1, h2, h3, h4, h5, h6, h7, h8, h9, h10, h11, h12, h13, h14, h15, h16, h17, h18, h19, h20, hn, hk⟩ := h
  exact (And.intro (h1) (And.intro (h2) (And.intro (h3) (And.intro (h4) (And.intro (h5) (And.intro (h6) (And.intro (h7) (And.intro ((pk_un hd).trans h8) (And.intro (h9) (And.intro (h10) (And.intro (h11) (And.intro (h12) (And.intro (h13) (And.intro (h14) (And.intro (h15) (And.intro (h16) (And.intro (h17) (And.intro (h18) (And.intro (h19) (And.intro (h20) (And.intro (hn) (hk))))))))))))))))))))))
theorem tm_r8 (h : tm_R (at_, kc, kn, a1, a2, a3, a4, a5, a6, a7, a8, a9, a10, a11, a12, a13, a14, a15, a16, a17, a18, a19, a20, a21, a22, a23, a24) t T O) : a8 at_.toNatClampNeg = nI (T 8 0) := by
  rw [tm_cl h]
  exact tm_s8 h.2.2.1
theorem tm_w8 {x : Nat → Int32} {y : Int32} {v : Nat} (h : tm_R (at_, kc, kn, a1, a2, a3, a4, a5, a6, a7, a8, a9, a10, a11, a12, a13, a14, a15, a16, a17, a18, a19, a20, a21, a22, a23, a24) t T O) (e : x = upd a8 at_.toNatClampNeg y) (hy : y = nI v) : tm_R (at_, kc, kn, a1, a2, a3, a4, a5, a6, a7, x, a9, a10, a11, a12, a13, a14, a15, a16, a17, a18, a19, a20, a21, a22, a23, a24) t (tm_up T 8 0 v) O := by
  subst e hy
  rw [tm_cl h]
  exact (And.intro (h.1) (And.intro (h.2.1) (And.intro (tm_sw8 v h.2.2.1) (tm_so8 t _ (by have := h.2.1; omega) h.2.2.2))))
theorem tm_sw9 (v : Nat) (h : tm_Sl (at_, kc, kn, a1, a2, a3, a4, a5, a6, a7, a8, a9, a10, a11, a12, a13, a14, a15, a16, a17, a18, a19, a20, a21, a22, a23, a24) t T) : tm_Sl (at_, kc, kn, a1, a2, a3, a4, a5, a6, a7, a8, upd a9 t (nI v), a10, a11, a12, a13, a14, a15, a16, a17, a18, a19, a20, a21, a22, a23, a24) t (tm_up T 9 0 v) := by
  obtain ⟨h1, h2, h3, h4, h5, h6, h7, h8, h9, h10, h11, h12, h13, h14, h15, h16, h17, h18, h19, h20, hn, hk⟩ := h
  exact (And.intro (h1) (And.intro (h2) (And.intro (h3) (And.intro (h4) (And.intro (h5) (And.intro (h6) (And.intro (h7) (And.intro (h8) (And.intro (pk_us) (And.intro (h10) (And.intro (h11) (And.intro (h12) (And.intro (h13) (And.intro (h14) (And.intro (h15) (And.intro (h16) (And.intro (h17) (And.intro (h18) (And.intro (h19) (And.intro (h20) (And.intro (hn) (hk))))))))))))))))))))))
theorem tm_so9 (d : Nat) (x : Int32) (hd : t ≠ d) (h : tm_Sl (at_, kc, kn, a1, a2, a3, a4, a5, a6, a7, a8, a9, a10, a11, a12, a13, a14, a15, a16, a17, a18, a19, a20, a21, a22, a23, a24) t T) : tm_Sl (at_, kc, kn, a1, a2, a3, a4, a5, a6, a7, a8, upd a9 d x, a10, a11, a12, a13, a14, a15, a16, a17, a18, a19, a20, a21, a22, a23, a24) t T := by
  obtain ⟨h1, h2, h3, h4, h5, h6, h7, h8, h9, h10, h11, h12, h13, h14, h15, h16, h17, h18, h19, h20, hn, hk⟩ := h
  exact (And.intro (h1) (And.intro (h2) (And.intro (h3) (And.intro (h4) (And.intro (h5) (And.intro (h6) (And.intro (h7) (And.intro (h8) (And.intro ((pk_un hd).trans h9) (And.intro (h10) (And.intro (h11) (And.intro (h12) (And.intro (h13) (And.intro (h14) (And.intro (h15) (And.intro (h16) (And.intro (h17) (And.intro (h18) (And.intro (h19) (And.intro (h20) (And.intro (hn) (hk))))))))))))))))))))))
theorem tm_r9 (h : tm_R (at_, kc, kn, a1, a2, a3, a4, a5, a6, a7, a8, a9, a10, a11, a12, a13, a14, a15, a16, a17, a18, a19, a20, a21, a22, a23, a24) t T O) : a9 at_.toNatClampNeg = nI (T 9 0) := by
  rw [tm_cl h]
  exact tm_s9 h.2.2.1
theorem tm_w9 {x : Nat → Int32} {y : Int32} {v : Nat} (h : tm_R (at_, kc, kn, a1, a2, a3, a4, a5, a6, a7, a8, a9, a10, a11, a12, a13, a14, a15, a16, a17, a18, a19, a20, a21, a22, a23, a24) t T O) (e : x = upd a9 at_.toNatClampNeg y) (hy : y = nI v) : tm_R (at_, kc, kn, a1, a2, a3, a4, a5, a6, a7, a8, x, a10, a11, a12, a13, a14, a15, a16, a17, a18, a19, a20, a21, a22, a23, a24) t (tm_up T 9 0 v) O := by
  subst e hy
  rw [tm_cl h]
  exact (And.intro (h.1) (And.intro (h.2.1) (And.intro (tm_sw9 v h.2.2.1) (tm_so9 t _ (by have := h.2.1; omega) h.2.2.2))))
theorem tm_sw10 (v : Nat) (h : tm_Sl (at_, kc, kn, a1, a2, a3, a4, a5, a6, a7, a8, a9, a10, a11, a12, a13, a14, a15, a16, a17, a18, a19, a20, a21, a22, a23, a24) t T) : tm_Sl (at_, kc, kn, a1, a2, a3, a4, a5, a6, a7, a8, a9, upd a10 t (nI v), a11, a12, a13, a14, a15, a16, a17, a18, a19, a20, a21, a22, a23, a24) t (tm_up T 10 0 v) := by
  obtain ⟨h1, h2, h3, h4, h5, h6, h7, h8, h9, h10, h11, h12, h13, h14, h15, h16, h17, h18, h19, h20, hn, hk⟩ := h
  exact (And.intro (h1) (And.intro (h2) (And.intro (h3) (And.intro (h4) (And.intro (h5) (And.intro (h6) (And.intro (h7) (And.intro (h8) (And.intro (h9) (And.intro (pk_us) (And.intro (h11) (And.intro (h12) (And.intro (h13) (And.intro (h14) (And.intro (h15) (And.intro (h16) (And.intro (h17) (And.intro (h18) (And.intro (h19) (And.intro (h20) (And.intro (hn) (hk))))))))))))))))))))))
theorem tm_so10 (d : Nat) (x : Int32) (hd : t ≠ d) (h : tm_Sl (at_, kc, kn, a1, a2, a3, a4, a5, a6, a7, a8, a9, a10, a11, a12, a13, a14, a15, a16, a17, a18, a19, a20, a21, a22, a23, a24) t T) : tm_Sl (at_, kc, kn, a1, a2, a3, a4, a5, a6, a7, a8, a9, upd a10 d x, a11, a12, a13, a14, a15, a16, a17, a18, a19, a20, a21, a22, a23, a24) t T := by
  obtain ⟨h1, h2, h3, h4, h5, h6, h7, h8, h9, h10, h11, h12, h13, h14, h15, h16, h17, h18, h19, h20, hn, hk⟩ := h
  exact (And.intro (h1) (And.intro (h2) (And.intro (h3) (And.intro (h4) (And.intro (h5) (And.intro (h6) (And.intro (h7) (And.intro (h8) (And.intro (h9) (And.intro ((pk_un hd).trans h10) (And.intro (h11) (And.intro (h12) (And.intro (h13) (And.intro (h14) (And.intro (h15) (And.intro (h16) (And.intro (h17) (And.intro (h18) (And.intro (h19) (And.intro (h20) (And.intro (hn) (hk))))))))))))))))))))))
theorem tm_r10 (h : tm_R (at_, kc, kn, a1, a2, a3, a4, a5, a6, a7, a8, a9, a10, a11, a12, a13, a14, a15, a16, a17, a18, a19, a20, a21, a22, a23, a24) t T O) : a10 at_.toNatClampNeg = nI (T 10 0) := by
  rw [tm_cl h]
  exact tm_s10 h.2.2.1
theorem tm_w10 {x : Nat → Int32} {y : Int32} {v : Nat} (h : tm_R (at_, kc, kn, a1, a2, a3, a4, a5, a6, a7, a8, a9, a10, a11, a12, a13, a14, a15, a16, a17, a18, a19, a20, a21, a22, a23, a24) t T O) (e : x = upd a10 at_.toNatClampNeg y) (hy : y = nI v) : tm_R (at_, kc, kn, a1, a2, a3, a4, a5, a6, a7, a8, a9, x, a11, a12, a13, a14, a15, a16, a17, a18, a19, a20, a21, a22, a23, a24) t (tm_up T 10 0 v) O := by
  subst e hy
  rw [tm_cl h]
  exact (And.intro (h.1) (And.intro (h.2.1) (And.intro (tm_sw10 v h.2.2.1) (tm_so10 t _ (by have := h.2.1; omega) h.2.2.2))))
theorem tm_sw11 (v : Nat) (h : tm_Sl (at_, kc, kn, a1, a2, a3, a4, a5, a6, a7, a8, a9, a10, a11, a12, a13, a14, a15, a16, a17, a18, a19, a20, a21, a22, a23, a24) t T) : tm_Sl (at_, kc, kn, a1, a2, a3, a4, a5, a6, a7, a8, a9, a10, upd a11 t (nI v), a12, a13, a14, a15, a16, a17, a18, a19, a20, a21, a22, a23, a24) t (tm_up T 11 0 v) := by
  obtain ⟨h1, h2, h3, h4, h5, h6, h7, h8, h9, h10, h11, h12, h13, h14, h15, h16, h17, h18, h19, h20, hn, hk⟩ := h
  exact (And.intro (h1) (And.intro (h2) (And.intro (h3) (And.intro (h4) (And.intro (h5) (And.intro (h6) (And.intro (h7) (And.intro (h8) (And.intro (h9) (And.intro (h10) (And.intro (pk_us) (And.intro (h12) (And.intro (h13) (And.intro (h14) (And.intro (h15) (And.intro (h16) (And.intro (h17) (And.intro (h18) (And.intro (h19) (And.intro (h20) (And.intro (hn) (hk))))))))))))))))))))))
theorem tm_so11 (d : Nat) (x : Int32) (hd : t ≠ d) (h : tm_Sl (at_, kc, kn, a1, a2, a3, a4, a5, a6, a7, a8, a9, a10, a11, a12, a13, a14, a15, a16, a17, a18, a19, a20, a21, a22, a23, a24) t T) : tm_Sl (at_, kc, kn, a1, a2, a3, a4, a5, a6, a7, a8, a9, a10, upd a11 d x, a12, a13, a14, a15, a16, a17, a18, a19, a20, a21, a22, a23, a24) t T := by
  obtain ⟨h1, h2, h3, h4, h5, h6, h7, h8, h9, h10, h11, h12, h13, h14, h15, h16, h17, h18, h19, h20, hn, hk⟩ := h
  exact (And.intro (h1) (And.intro (h2) (And.intro (h3) (And.intro (h4) (And.intro (h5) (And.intro (h6) (And.intro (h7) (And.intro (h8) (And.intro (h9) (And.intro (h10) (And.intro ((pk_un hd).trans h11) (And.intro (h12) (And.intro (h13) (And.intro (h14) (And.intro (h15) (And.intro (h16) (And.intro (h17) (And.intro (h18) (And.intro (h19) (And.intro (h20) (And.intro (hn) (hk))))))))))))))))))))))
theorem tm_r11 (h : tm_R (at_, kc, kn, a1, a2, a3, a4, a5, a6, a7, a8, a9, a10, a11, a12, a13, a14, a15, a16, a17, a18, a19, a20, a21, a22, a23, a24) t T O) : a11 at_.toNatClampNeg = nI (T 11 0) := by
  rw [tm_cl h]
  exact tm_s11 h.2.2.1
theorem tm_w11 {x : Nat → Int32} {y : Int32} {v : Nat} (h : tm_R (at_, kc, kn, a1, a2, a3, a4, a5, a6, a7, a8, a9, a10, a11, a12, a13, a14, a15, a16, a17, a18, a19, a20, a21, a22, a23, a24) t T O) (e : x = upd a11 at_.toNatClampNeg y) (hy : y = nI v) : tm_R (at_, kc, kn, a1, a2, a3, a4, a5, a6, a7, a8, a9, a10, x, a12, a13, a14, a15, a16, a17, a18, a19, a20, a21, a22, a23, a24) t (tm_up T 11 0 v) O := by
  subst e hy
  rw [tm_cl h]
  exact (And.intro (h.1) (And.intro (h.2.1) (And.intro (tm_sw11 v h.2.2.1) (tm_so11 t _ (by have := h.2.1; omega) h.2.2.2))))
theorem tm_sw12 (v : Nat) (h : tm_Sl (at_, kc, kn, a1, a2, a3, a4, a5, a6, a7, a8, a9, a10, a11, a12, a13, a14, a15, a16, a17, a18, a19, a20, a21, a22, a23, a24) t T) : tm_Sl (at_, kc, kn, a1, a2, a3, a4, a5, a6, a7, a8, a9, a10, a11, upd a12 t (nI v), a13, a14, a15, a16, a17, a18, a19, a20, a21, a22, a23, a24) t (tm_up T 12 0 v) := by
  obtain ⟨h1, h2, h3, h4, h5, h6, h7, h8, h9, h10, h11, h12, h13, h14, h15, h16, h17, h18, h19, h20, hn, hk⟩ := h
  exact (And.intro (h1) (And.intro (h2) (And.intro (h3) (And.intro (h4) (And.intro (h5) (And.intro (h6) (And.intro (h7) (And.intro (h8) (And.intro (h9) (And.intro (h10) (And.intro (h11) (And.intro (pk_us) (And.intro (h13) (And.intro (h14) (And.intro (h15) (And.intro (h16) (And.intro (h17) (And.intro (h18) (And.intro (h19) (And.intro (h20) (And.intro (hn) (hk))))))))))))))))))))))
theorem tm_so12 (d : Nat) (x : Int32) (hd : t ≠ d) (h : tm_Sl (at_, kc, kn, a1, a2, a3, a4, a5, a6, a7, a8, a9, a10, a11, a12, a13, a14, a15, a16, a17, a18, a19, a20, a21, a22, a23, a24) t T) : tm_Sl (at_, kc, kn, a1, a2, a3, a4, a5, a6, a7, a8, a9, a10, a11, upd a12 d x, a13, a14, a15, a16, a17, a18, a19, a20, a21, a22, a23, a24) t T := by
  obtain ⟨h1, h2, h3, h4, h5, h6, h7, h8, h9, h10, h11, h12, h13, h14, h15, h16, h17, h18, h19, h20, hn, hk⟩ := h
  exact (And.intro (h1) (And.intro (h2) (And.intro (h3) (And.intro (h4) (And.intro (h5) (And.intro (h6) (And.intro (h7) (And.intro (h8) (And.intro (h9) (And.intro (h10) (And.intro (h11) (And.intro ((pk_un hd).trans h12) (And.intro (h13) (And.intro (h14) (And.intro (h15) (And.intro (h16) (And.intro (h17) (And.intro (h18) (And.intro (h19) (And.intro (h20) (And.intro (hn) (hk))))))))))))))))))))))
theorem tm_r12 (h : tm_R (at_, kc, kn, a1, a2, a3, a4, a5, a6, a7, a8, a9, a10, a11, a12, a13, a14, a15, a16, a17, a18, a19, a20, a21, a22, a23, a24) t T O) : a12 at_.toNatClampNeg = nI (T 12 0) := by
  rw [tm_cl h]
  exact tm_s12 h.2.2.1
theorem tm_w12 {x : Nat → Int32} {y : Int32} {v : Nat} (h : tm_R (at_, kc, kn, a1, a2, a3, a4, a5, a6, a7, a8, a9, a10, a11, a12, a13, a14, a15, a16, a17, a18, a19, a20, a21, a22, a23, a24) t T O) (e : x = upd a12 at_.toNatClampNeg y) (hy : y = nI v) : tm_R (at_, kc, kn, a1, a2, a3, a4, a5, a6, a7, a8, a9, a10, a11, x, a13, a14, a15, a16, a17, a18, a19, a20, a21, a22, a23, a24) t (tm_up T 12 0 v) O := by
  subst e hy
  rw [tm_cl h]
  exact (And.intro (h.1) (And.intro (h.2.1) (And.intro (tm_sw12 v h.2.2.1) (tm_so12 t _ (by have := h.2.1; omega) h.2.2.2))))
theorem tm_sw13 (v : Nat) (h : tm_Sl (at_, kc, kn, a1, a2, a3, a4, a5, a6, a7, a8, a9, a10, a11, a12, a13, a14, a15, a16, a17, a18, a19, a20, a21, a22, a23, a24) t T) : tm_Sl (at_, kc, kn, a1, a2, a3, a4, a5, a6, a7, a8, a9, a10, a11, a12, upd a13 t (nI v), a14, a15, a16, a17, a18, a19, a20, a21, a22, a23, a24) t (tm_up T 13 0 v) := by
  obtain ⟨h1, h2, h3, h4, h5, h6, h7, h8, h9, h10, h11, h12, h13, h14, h15, h16, h17, h18, h19, h20, hn, hk⟩ := h
  exact (And.intro (h1) (And.intro (h2) (And.intro (h3) (And.intro (h4) (And.intro (h5) (And.intro (h6) (And.intro (h7) (And.intro (h8) (And.intro (h9) (And.intro (h10) (And.intro (h11) (And.intro (h12) (And.intro (pk_us) (And.intro (h14) (And.intro (h15) (And.intro (h16) (And.intro (h17) (And.intro (h18) (And.intro (h19) (And.intro (h20) (And.intro (hn) (hk))))))))))))))))))))))
theorem tm_so13 (d : Nat) (x : Int32) (hd : t ≠ d) (h : tm_Sl (at_, kc, kn, a1, a2, a3, a4, a5, a6, a7, a8, a9, a10, a11, a12, a13, a14, a15, a16, a17, a18, a19, a20, a21, a22, a23, a24) t T) : tm_Sl (at_, kc, kn, a1, a2, a3, a4, a5, a6, a7, a8, a9, a10, a11, a12, upd a13 d x, a14, a15, a16, a17, a18, a19, a20, a21, a22, a23, a24) t T := by
  obtain ⟨h1, h2, h3, h4, h5, h6, h7, h8, h9, h10, h11, h12, h13, h14, h15, h16, h17, h18, h19, h20, hn, hk⟩ := h
  exact (And.intro (h1) (And.intro (h2) (And.intro (h3) (And.intro (h4) (And.intro (h5) (And.intro (h6) (And.intro (h7) (And.intro (h8) (And.intro (h9) (And.intro (h10) (And.intro (h11) (And.intro (h12) (And.intro ((pk_un hd).trans h13) (And.intro (h14) (And.intro (h15) (And.intro (h16) (And.intro (h17) (And.intro (h18) (And.intro (h19) (And.intro (h20) (And.intro (hn) (hk))))))))))))))))))))))
theorem tm_r13 (h : tm_R (at_, kc, kn, a1, a2, a3, a4, a5, a6, a7, a8, a9, a10, a11, a12, a13, a14, a15, a16, a17, a18, a19, a20, a21, a22, a23, a24) t T O) : a13 at_.toNatClampNeg = nI (T 13 0) := by
  rw [tm_cl h]
  exact tm_s13 h.2.2.1
theorem tm_w13 {x : Nat → Int32} {y : Int32} {v : Nat} (h : tm_R (at_, kc, kn, a1, a2, a3, a4, a5, a6, a7, a8, a9, a10, a11, a12, a13, a14, a15, a16, a17, a18, a19, a20, a21, a22, a23, a24) t T O) (e : x = upd a13 at_.toNatClampNeg y) (hy : y = nI v) : tm_R (at_, kc, kn, a1, a2, a3, a4, a5, a6, a7, a8, a9, a10, a11, a12, x, a14, a15, a16, a17, a18, a19, a20, a21, a22, a23, a24) t (tm_up T 13 0 v) O := by
  subst e hy
  rw [tm_cl h]
  exact (And.intro (h.1) (And.intro (h.2.1) (And.intro (tm_sw13 v h.2.2.1) (tm_so13 t _ (by have := h.2.1; omega) h.2.2.2))))
theorem tm_sw14 (v : Nat) (h : tm_Sl (at_, kc, kn, a1, a2, a3, a4, a5, a6, a7, a8, a9, a10, a11, a12, a13, a14, a15, a16, a17, a18, a19, a20, a21, a22, a23, a24) t T) : tm_Sl (at_, kc, kn, a1, a2, a3, a4, a5, a6, a7, a8, a9, a10, a11, a12, a13, upd a14 t (nI v), a15, a16, a17, a18, a19, a20, a21, a22, a23, a24) t (tm_up T 14 0 v) := by
  obtain ⟨h1, h2, h3, h4, h5, h6, h7, h8, h9, h10, h11, h12, h13, h14, h15, h16, h17, h18, h19, h20, hn, hk⟩ := h
  exact (And.intro (h1) (And.intro (h2) (And.intro (h3) (And.intro (h4) (And.intro (h5) (And.intro (h6) (And.intro (h7) (And.intro (h8) (And.intro (h9) (And.intro (h10) (And.intro (h11) (And.intro (h12) (And.intro (h13) (And.intro (pk_us) (And.intro (h15) (And.intro (h16) (And.intro (h17) (And.intro (h18) (And.intro (h19) (And.intro (h20) (And.intro (hn) (hk))))))))))))))))))))))
theorem tm_so14 (d : Nat) (x : Int32) (hd : t ≠ d) (h : tm_Sl (at_, kc, kn, a1, a2, a3, a4, a5, a6, a7, a8, a9, a10, a11, a12, a13, a14, a15, a16, a17, a18, a19, a20, a21, a22, a23, a24) t T) : tm_Sl (at_, kc, kn, a1, a2, a3, a4, a5, a6, a7, a8, a9, a10, a11, a12, a13, upd a14 d x, a15, a16, a17, a18, a19, a20, a21, a22, a23, a24) t T := by
  obtain ⟨h1, h2, h3, h4, h5, h6, h7, h8, h9, h10, h11, h12, h13, h14, h15, h16, h17, h18, h19, h20, hn, hk⟩ := h
  exact (And.intro (h1) (And.intro (h2) (And.intro (h3) (And.intro (h4) (And.intro (h5) (And.intro (h6) (And.intro (h7) (And.intro (h8) (And.intro (h9) (And.intro (h10) (And.intro (h11) (And.intro (h12) (And.intro (h13) (And.intro ((pk_un hd).trans h14) (And.intro (h15) (And.intro (h16) (And.intro (h17) (And.intro (h18) (And.intro (h19) (And.intro (h20) (And.intro (hn) (hk))))))))))))))))))))))
theorem tm_r14 (h : tm_R (at_, kc, kn, a1, a2, a3, a4, a5, a6, a7, a8, a9, a10, a11, a12, a13, a14, a15, a16, a17, a18, a19, a20, a21, a22, a23, a24) t T O) : a14 at_.toNatClampNeg = nI (T 14 0) := by
  rw [tm_cl h]
  exact tm_s14 h.2.2.1
theorem tm_w14 {x : Nat → Int32} {y : Int32} {v : Nat} (h : tm_R (at_, kc, kn, a1, a2, a3, a4, a5, a6, a7, a8, a9, a10, a11, a12, a13, a14, a15, a16, a17, a18, a19, a20, a21, a22, a23, a24) t T O) (e : x = upd a14 at_.toNatClampNeg y) (hy : y = nI v) : tm_R (at_, kc, kn, a1, a2, a3, a4, a5, a6, a7, a8, a9, a10, a11, a12, a13, x, a15, a16, a17, a18, a19, a20, a21, a22, a23, a24) t (tm_up T 14 0 v) O := by
  subst e hy
  rw [tm_cl h]
  exact (And.intro (h.1) (And.intro (h.2.1) (And.intro (tm_sw14 v h.2.2.1) (tm_so14 t _ (by have := h.2.1; omega) h.2.2.2))))
theorem tm_sw15 (v : Nat) (h : tm_Sl (at_, kc, kn, a1, a2, a3, a4, a5, a6, a7, a8, a9, a10, a11, a12, a13, a14, a15, a16, a17, a18, a19, a20, a21, a22, a23, a24) t T) : tm_Sl (at_, kc, kn, a1, a2, a3, a4, a5, a6, a7, a8, a9, a10, a11, a12, a13, a14, upd a15 t (nI v), a16, a17, a18, a19, a20, a21, a22, a23, a24) t (tm_up T 15 0 v) := by
  obtain ⟨h1, h2, h3, h4, h5, h6, h7, h8, h9, h10, h11, h12, h13, h14, h15, h16, h17, h18, h19, h20, hn, hk⟩ := h
  exact (And.intro (h1) (And.intro (h2) (And.intro (h3) (And.intro (h4) (And.intro (h5) (And.intro (h6) (And.intro (h7) (And.intro (h8) (And.intro (h9) (And.intro (h10) (And.intro (h11) (And.intro (h12) (And.intro (h13) (And.intro (h14) (And.intro (pk_us) (And.intro (h16) (And.intro (h17) (And.intro (h18) (And.intro (h19) (And.intro (h20) (And.intro (hn) (hk))))))))))))))))))))))
theorem tm_so15 (d : Nat) (x : Int32) (hd : t ≠ d) (h : tm_Sl (at_, kc, kn, a1, a2, a3, a4, a5, a6, a7, a8, a9, a10, a11, a12, a13, a14, a15, a16, a17, a18, a19, a20, a21, a22, a23, a24) t T) : tm_Sl (at_, kc, kn, a1, a2, a3, a4, a5, a6, a7, a8, a9, a10, a11, a12, a13, a14, upd a15 d x, a16, a17, a18, a19, a20, a21, a22, a23, a24) t T := by
  obtain ⟨h1, h2, h3, h4, h5, h6, h7, h8, h9, h10, h11, h12, h13, h14, h15, h16, h17, h18, h19, h20, hn, hk⟩ := h
  exact (And.intro (h1) (And.intro (h2) (And.intro (h3) (And.intro (h4) (And.intro (h5) (And.intro (h6) (And.intro (h7) (And.intro (h8) (And.intro (h9) (And.intro (h10) (And.intro (h11) (And.intro (h12) (And.intro (h13) (And.intro (h14) (And.intro ((pk_un hd).trans h15) (And.intro (h16) (And.intro (h17) (And.intro (h18) (And.intro (h19) (And.intro (h20) (And.intro (hn) (hk))))))))))))))))))))))
theorem tm_r15 (h : tm_R (at_, kc, kn, a1, a2, a3, a4, a5, a6, a7, a8, a9, a10, a11, a12, a13, a14, a15, a16, a17, a18, a19, a20, a21, a22, a23, a24) t T O) : a15 at_.toNatClampNeg = nI (T 15 0) := by
  rw [tm_cl h]
  exact tm_s15 h.2.2.1
theorem tm_w15 {x : Nat → Int32} {y : Int32} {v : Nat} (h : tm_R (at_, kc, kn, a1, a2, a3, a4, a5, a6, a7, a8, a9, a10, a11, a12, a13, a14, a15, a16, a17, a18, a19, a20, a21, a22, a23, a24) t T O) (e : x = upd a15 at_.toNatClampNeg y) (hy : y = nI v) : tm_R (at_, kc, kn, a1, a2, a3, a4, a5, a6, a7, a8, a9, a10, a11, a12, a13, a14, x, a16, a17, a18, a19, a20, a21, a22, a23, a24) t (tm_up T 15 0 v) O := by
  subst e hy
  rw [tm_cl h]
  exact (And.intro (h.1) (And.intro (h.2.1) (And.intro (tm_sw15 v h.2.2.1) (tm_so15 t _ (by have := h.2.1; omega) h.2.2.2))))
theorem tm_sw16 (v : Nat) (h : tm_Sl (at_, kc, kn, a1, a2, a3, a4, a5, a6, a7, a8, a9, a10, a11, a12, a13, a14, a15, a16, a17, a18, a19, a20, a21, a22, a23, a24) t T) : tm_Sl (at_, kc, kn, a1, a2, a3, a4, a5, a6, a7, a8, a9, a10, a11, a12, a13, a14, a15, upd a16 t (nI v), a17, a18, a19, a20, a21, a22, a23, a24) t (tm_up T 16 0 v) := by
  obtain ⟨h1, h2, h3, h4, h5, h6, h7, h8, h9, h10, h11, h12, h13, h14, h15, h16, h17, h18, h19, h20, hn, hk⟩ := h
  exact (And.intro (h1) (And.intro (h2) (And.intro (h3) (And.intro (h4) (And.intro (h5) (And.intro (h6) (And.intro (h7) (And.intro (h8) (And.intro (h9) (And.intro (h10) (And.intro (h11) (And.intro (h12) (And.intro (h13) (And.intro (h14) (And.intro (h15) (And.intro (pk_us) (And.intro (h17) (And.intro (h18) (And.intro (h19) (And.intro (h20) (And.intro (hn) (hk))))))))))))))))))))))
theorem tm_so16 (d : Nat) (x : Int32) (hd : t ≠ d) (h : tm_Sl (at_, kc, kn, a1, a2, a3, a4, a5, a6, a7, a8, a9, a10, a11, a12, a13, a14, a15, a16, a17, a18, a19, a20, a21, a22, a23, a24) t T) : tm_Sl (at_, kc, kn, a1, a2, a3, a4, a5, a6, a7, a8, a9, a10, a11, a12, a13, a14, a15, upd a16 d x, a17, a18, a19, a20, a21, a22, a23, a24) t T := by
  obtain ⟨h1, h2, h3, h4, h5, h6, h7, h8, h9, h10, h11, h12, h13, h14, h15, h16, h17, h18, h19, h20, hn, hk⟩ := h
  exact (And.intro (h1) (And.intro (h2) (And.intro (h3) (And.intro (h4) (And.intro (h5) (And.intro (h6) (And.intro (h7) (And.intro (h8) (And.intro (h9) (And.intro (h10) (And.intro (h11) (And.intro (h12) (And.intro (h13) (And.intro (h14) (And.intro (h15) (And.intro ((pk_un hd).trans h16) (And.intro (h17) (And.intro (h18) (And.intro (h19) (And.intro (h20) (And.intro (hn) (hk))))))))))))))))))))))
theorem tm_r16 (h : tm_R (at_, kc, kn, a1, a2, a3, a4, a5, a6, a7, a8, a9, a10, a11, a12, a13, a14, a15, a16, a17, a18, a19, a20, a21, a22, a23, a24) t T O) : a16 at_.toNatClampNeg = nI (T 16 0) := by
  rw [tm_cl h]
  exact tm_s16 h.2.2.1
theorem tm_w16 {x : Nat → Int32} {y : Int32} {v : Nat} (h : tm_R (at_, kc, kn, a1, a2, a3, a4, a5, a6, a7, a8, a9, a10, a11, a12, a13, a14, a15, a16, a17, a18, a19, a20, a21, a22, a23, a24) t T O) (e : x = upd a16 at_.toNatClampNeg y) (hy : y = nI v) : tm_R (at_, kc, kn, a1, a2, a3, a4, a5, a6, a7, a8, a9, a10, a11, a12, a13, a14, a15, x, a17, a18, a19, a20, a21, a22, a23, a24) t (tm_up T 16 0 v) O := by
  subst e hy
  rw [tm_cl h]
  exact (And.intro (h.1) (And.intro (h.2.1) (And.intro (tm_sw16 v h.2.2.1) (tm_so16 t _ (by have := h.2.1; omega) h.2.2.2))))
theorem tm_sw17 (v : Nat) (h : tm_Sl (at_, kc, kn, a1, a2, a3, a4, a5, a6, a7, a8, a9, a10, a11, a12, a13, a14, a15, a16, a17, a18, a19, a20, a21, a22, a23, a24) t T) : tm_Sl (at_, kc, kn, a1, a2, a3, a4, a5, a6, a7, a8, a9, a10, a11, a12, a13, a14, a15, a16, upd a17 t (nI v), a18, a19, a20, a21, a22, a23, a24) t (tm_up T 17 0 v) := by
  obtain ⟨h1, h2, h3, h4, h5, h6, h7, h8, h9, h10, h11, h12, h13, h14, h15, h16, h17, h18, h19, h20, hn, hk⟩ := h
  exact (And.intro (h1) (And.intro (h2) (And.intro (h3) (And.intro (h4) (And.intro (h5) (And.intro (h6) (And.intro (h7) (And.intro (h8) (And.intro (h9) (And.intro (h10) (And.intro (h11) (And.intro (h12) (And.intro (h13) (And.intro (h14) (And.intro (h15) (And.intro (h16) (And.intro (pk_us) (And.intro (h18) (And.intro (h19) (And.intro (h20) (And.intro (hn) (hk))))))))))))))))))))))
theorem tm_so17 (d : Nat) (x : Int32) (hd : t ≠ d) (h : tm_Sl (at_, kc, kn, a1, a2, a3, a4, a5, a6, a7, a8, a9, a10, a11, a12, a13, a14, a15, a16, a17, a18, a19, a20, a21, a22, a23, a24) t T) : tm_Sl (at_, kc, kn, a1, a2, a3, a4, a5, a6, a7, a8, a9, a10, a11, a12, a13, a14, a15, a16, upd a17 d x, a18, a19, a20, a21, a22, a23, a24) t T := by
  obtain ⟨h1, h2, h3, h4, h5, h6, h7, h8, h9, h10, h11, h12, h13, h14, h15, h16, h17, h18, h19, h20, hn, hk⟩ := h
  exact (And.intro (h1) (And.intro (h2) (And.intro (h3) (And.intro (h4) (And.intro (h5) (And.intro (h6) (And.intro (h7) (And.intro (h8) (And.intro (h9) (And.intro (h10) (And.intro (h11) (And.intro (h12) (And.intro (h13) (And.intro (h14) (And.intro (h15) (And.intro (h16) (And.intro ((pk_un hd).trans h17) (And.intro (h18) (And.intro (h19) (And.intro (h20) (And.intro (hn) (hk))))))))))))))))))))))
theorem tm_r17 (h : tm_R (at_, kc, kn, a1, a2, a3, a4, a5, a6, a7, a8, a9, a10, a11, a12, a13, a14, a15, a16, a17, a18, a19, a20, a21, a22, a23, a24) t T O) : a17 at_.toNatClampNeg = nI (T 17 0) := by
  rw [tm_cl h]
  exact tm_s17 h.2.2.1
theorem tm_w17 {x : Nat → Int32} {y : Int32} {v : Nat} (h : tm_R (at_, kc, kn, a1, a2, a3, a4, a5, a6, a7, a8, a9, a10, a11, a12, a13, a14, a15, a16, a17, a18, a19, a20, a21, a22, a23, a24) t T O) (e : x = upd a17 at_.toNatClampNeg y) (hy : y = nI v) : tm_R (at_, kc, kn, a1, a2, a3, a4, a5, a6, a7, a8, a9, a10, a11, a12, a13, a14, a15, a16, x, a18, a19, a20, a21, a22, a23, a24) t (tm_up T 17 0 v) O := by
  subst e hy
  rw [tm_cl h]
  exact (And.intro (h.1) (And.intro (h.2.1) (And.intro (tm_sw17 v h.2.2.1) (tm_so17 t _ (by have := h.2.1; omega) h.2.2.2))))
theorem tm_sw18 (v : Nat) (h : tm_Sl (at_, kc, kn, a1, a2, a3, a4, a5, a6, a7, a8, a9, a10, a11, a12, a13, a14, a15, a16, a17, a18, a19, a20, a21, a22, a23, a24) t T) : tm_Sl (at_, kc, kn, a1, a2, a3, a4, a5, a6, a7, a8, a9, a10, a11, a12, a13, a14, a15, a16, a17, upd a18 t (nI v), a19, a20, a21, a22, a23, a24) t (tm_up T 18 0 v) := by
  obtain ⟨h1, h2, h3, h4, h5, h6, h7, h8, h9, h10, h11, h12, h13, h14, h15, h16, h17, h18, h19, h20, hn, hk⟩ := h
  exact (And.intro (h1) (And.intro (h2) (And.intro (h3) (And.intro (h4) (And.intro (h5) (And.intro (h6) (And.intro (h7) (And.intro (h8) (And.intro (h9) (And.intro (h10) (And.intro (h11) (And.intro (h12) (And.intro (h13) (And.intro (h14) (And.intro (h15) (And.intro (h16) (And.intro (h17) (And.intro (pk_us) (And.intro (h19) (And.intro (h20) (And.intro (hn) (hk))))))))))))))))))))))
theorem tm_so18 (d : Nat) (x : Int32) (hd : t ≠ d) (h : tm_Sl (at_, kc, kn, a1, a2, a3, a4, a5, a6, a7, a8, a9, a10, a11, a12, a13, a14, a15, a16, a17, a18, a19, a20, a21, a22, a23, a24) t T) : tm_Sl (at_, kc, kn, a1, a2, a3, a4, a5, a6, a7, a8, a9, a10, a11, a12, a13, a14, a15, a16, a17, upd a18 d x, a19, a20, a21, a22, a23, a24) t T := by
  obtain ⟨h1, h2, h3, h4, h5, h6, h7, h8, h9, h10, h11, h12, h13, h14, h15, h16, h17, h18, h19, h20, hn, hk⟩ := h
  exact (And.intro (h1) (And.intro (h2) (And.intro (h3) (And.intro (h4) (And.intro (h5) (And.intro (h6) (And.intro (h7) (And.intro (h8) (And.intro (h9) (And.intro (h10) (And.intro (h11) (And.intro (h12) (And.intro (h13) (And.intro (h14) (And.intro (h15) (And.intro (h16) (And.intro (h17) (And.intro ((pk_un hd).trans h18) (And.intro (h19) (And.intro (h20) (And.intro (hn) (hk))))))))))))))))))))))
theorem tm_r18 (h : tm_R (at_, kc, kn, a1, a2, a3, a4, a5, a6, a7, a8, a9, a10, a11, a12, a13, a14, a15, a16, a17, a18, a19, a20, a21, a22, a23, a24) t T O) : a18 at_.toNatClampNeg = nI (T 18 0) := by
  rw [tm_cl h]
  exact tm_s18 h.2.2.1
theorem tm_w18 {x : Nat → Int32} {y : Int32} {v : Nat} (h : tm_R (at_, kc, kn, a1, a2, a3, a4, a5, a6, a7, a8, a9, a10, a11, a12, a13, a14, a15, a16, a17, a18, a19, a20, a21, a22, a23, a24) t T O) (e : x = upd a18 at_.toNatClampNeg y) (hy : y = nI v) : tm_R (at_, kc, kn, a1, a2, a3, a4, a5, a6, a7, a8, a9, a10, a11, a12, a13, a14, a15, a16, a17, x, a19, a20, a21, a22, a23, a24) t (tm_up T 18 0 v) O := by
  subst e hy
  rw [tm_cl h]
  exact (And.intro (h.1) (And.intro (h.2.1) (And.intro (tm_sw18 v h.2.2.1) (tm_so18 t _ (by have := h.2.1; omega) h.2.2.2))))
theorem tm_sw19 (v : Nat) (h : tm_Sl (at_, kc, kn, a1, a2, a3, a4, a5, a6, a7, a8, a9, a10, a11, a12, a13, a14, a15, a16, a17, a18, a19, a20, a21, a22, a23, a24) t T) : tm_Sl (at_, kc, kn, a1, a2, a3, a4, a5, a6, a7, a8, a9, a10, a11, a12, a13, a14, a15, a16, a17, a18, upd a19 t (nI v), a20, a21, a22, a23, a24) t (tm_up T 19 0 v) := by
  obtain ⟨h1, h2, h3, h4, h5, h6, h7, h8, h9, h10, h11, h12, h13, h14, h15, h16, h17, h18, h19, h20, hn, hk⟩ := h
  exact (And.intro (h1) (And.intro (h2) (And.intro (h3) (And.intro (h4) (And.intro (h5) (And.intro (h6) (And.intro (h7) (And.intro (h8) (And.intro (h9) (And.intro (h10) (And.intro (h11) (And.intro (h12) (And.intro (h13) (And.intro (h14) (And.intro (h15) (And.intro (h16) (And.intro (h17) (And.intro (h18) (And.intro (pk_us) (And.intro (h20) (And.intro (hn) (hk))))))))))))))))))))))
theorem tm_so19 (d : Nat) (x : Int32) (hd : t ≠ d) (h : tm_Sl (at_, kc, kn, a1, a2, a3, a4, a5, a6, a7, a8, a9, a10, a11, a12, a13, a14, a15, a16, a17, a18, a19, a20, a21, a22, a23, a24) t T) : tm_Sl (at_, kc, kn, a1, a2, a3, a4, a5, a6, a7, a8, a9, a10, a11, a12, a13, a14, a15, a16, a17, a18, upd a19 d x, a20, a21, a22, a23, a24) t T := by
  obtain ⟨h1, h2, h3, h4, h5, h6, h7, h8, h9, h10, h11, h12, h13, h14, h15, h16, h17, h18, h19, h20, hn, hk⟩ := h
  exact (And.intro (h1) (And.intro (h2) (And.intro (h3) (And.intro (h4) (And.intro (h5) (And.intro (h6) (And.intro (h7) (And.intro (h8) (And.intro (h9) (And.intro (h10) (And.intro (h11) (And.intro (h12) (And.intro (h13) (And.intro (h14) (And.intro (h15) (And.intro (h16) (And.intro (h17) (And.intro (h18) (And.intro ((pk_un hd).trans h19) (And.intro (h20) (And.intro (hn) (hk))))))))))))))))))))))
theorem tm_r19 (h : tm_R (at_, kc, kn, a1, a2, a3, a4, a5, a6, a7, a8, a9, a10, a11, a12, a13, a14, a15, a16, a17, a18, a19, a20, a21, a22, a23, a24) t T O) : a19 at_.toNatClampNeg = nI (T 19 0) := by
  rw [tm_cl h]
  exact tm_s19 h.2.2.1
theorem tm_w19 {x : Nat → Int32} {y : Int32} {v : Nat} (h : tm_R (at_, kc, kn, a1, a2, a3, a4, a5, a6, a7, a8, a9, a10, a11, a12, a13, a14, a15, a16, a17, a18, a19, a20, a21, a22, a23, a24) t T O) (e : x = upd a19 at_.toNatClampNeg y) (hy : y = nI v) : tm_R (at_, kc, kn, a1, a2, a3, a4, a5, a6, a7, a8, a9, a10, a11, a12, a13, a14, a15, a16, a17, a18, x, a20, a21, a22, a23, a24) t (tm_up T 19 0 v) O := by
  subst e hy
  rw [tm_cl h]
  exact (And.intro (h.1) (And.intro (h.2.1) (And.intro (tm_sw19 v h.2.2.1) (tm_so19 t _ (by have := h.2.1; omega) h.2.2.2))))
theorem tm_sw20 (v : Nat) (h : tm_Sl (at_, kc, kn, a1, a2, a3, a4, a5, a6, a7, a8, a9, a10, a11, a12, a13, a14, a15, a16, a17, a18, a19, a20, a21, a22, a23, a24) t T) : tm_Sl (at_, kc, kn, a1, a2, a3, a4, a5, a6, a7, a8, a9, a10, a11, a12, a13, a14, a15, a16, a17, a18, a19, upd a20 t (nI v), a21, a22, a23, a24) t (tm_up T 20 0 v) := by
  obtain ⟨h1, h2, h3, h4, h5, h6, h7, h8, h9, h10, h11, h12, h13, h14, h15, h16, h17, h18, h19, h20, hn, hk⟩ := h
  exact (And.intro (h1) (And.intro (h2) (And.intro (h3) (And.intro (h4) (And.intro (h5) (And.intro (h6) (And.intro (h7) (And.intro (h8) (And.intro (h9) (And.intro (h10) (And.intro (h11) (And.intro (h12) (And.intro (h13) (And.intro (h14) (And.intro (h15) (And.intro (h16) (And.intro (h17) (And.intro (h18) (And.intro (h19) (And.intro (pk_us) (And.intro (hn) (hk))))))))))))))))))))))
theorem tm_so20 (d : Nat) (x : Int32) (hd : t ≠ d) (h : tm_Sl (at_, kc, kn, a1, a2, a3, a4, a5, a6, a7, a8, a9, a10, a11, a12, a13, a14, a15, a16, a17, a18, a19, a20, a21, a22, a23, a24) t T) : tm_Sl (at_, kc, kn, a1, a2, a3, a4, a5, a6, a7, a8, a9, a10, a11, a12, a13, a14, a15, a16, a17, a18, a19, upd a20 d x, a21, a22, a23, a24) t T := by
  obtain ⟨h1, h2, h3, h4, h5, h6, h7, h8, h9, h10, h11, h12, h13, h14, h15, h16, h17, h18, h19, h20, hn, hk⟩ := h
  exact (And.intro (h1) (And.intro (h2) (And.intro (h3) (And.intro (h4) (And.intro (h5) (And.intro (h6) (And.intro (h7) (And.intro (h8) (And.intro (h9) (And.intro (h10) (And.intro (h11) (And.intro (h12) (And.intro (h13) (And.intro (h14) (And.intro (h15) (And.intro (h16) (And.intro (h17) (And.intro (h18) (And.intro (h19) (And.intro ((pk_un hd).trans h20) (And.intro (hn) (hk))))))))))))))))))))))
theorem tm_r20 (h : tm_R (at_, kc, kn, a1, a2, a3, a4, a5, a6, a7, a8, a9, a10, a11, a12, a13, a14, a15, a16, a17, a18, a19, a20, a21, a22, a23, a24) t T O) : a20 at_.toNatClampNeg = nI (T 20 0) := by
  rw [tm_cl h]
  exact tm_s20 h.2.2.1
theorem tm_w20 {x : Nat → Int32} {y : Int32} {v : Nat} (h : tm_R (at_, kc, kn, a1, a2, a3, a4, a5, a6, a7, a8, a9, a10, a11, a12, a13, a14, a15, a16, a17, a18, a19, a20, a21, a22, a23, a24) t T O) (e : x = upd a20 at_.toNatClampNeg y) (hy : y = nI v) : tm_R (at_, kc, kn, a1, a2, a3, a4, a5, a6, a7, a8, a9, a10, a11, a12, a13, a14, a15, a16, a17, a18, a19, x, a21, a22, a23, a24) t (tm_up T 20 0 v) O := by
  subst e hy
  rw [tm_cl h]
  exact (And.intro (h.1) (And.intro (h.2.1) (And.intro (tm_sw20 v h.2.2.1) (tm_so20 t _ (by have := h.2.1; omega) h.2.2.2))))
theorem tm_sw1 (v j : Nat) (hj : j < 144) (h : tm_Sl (at_, kc, kn, a1, a2, a3, a4, a5, a6, a7, a8, a9, a10, a11, a12, a13, a14, a15, a16, a17, a18, a19, a20, a21, a22, a23, a24) t T) : tm_Sl (at_, kc, kn, upd a1 (t * 144 + j) (nI v), a2, a3, a4, a5, a6, a7, a8, a9, a10, a11, a12, a13, a14, a15, a16, a17, a18, a19, a20, a21, a22, a23, a24) t (tm_up T 1 j v) := by
  obtain ⟨h1, h2, h3, h4, h5, h6, h7, h8, h9, h10, h11, h12, h13, h14, h15, h16, h17, h18, h19, h20, hn, hk⟩ := h
  refine (And.intro (fun i hi => ?_) (And.intro (h2) (And.intro (h3) (And.intro (h4) (And.intro (h5) (And.intro (h6) (And.intro (h7) (And.intro (h8) (And.intro (h9) (And.intro (h10) (And.intro (h11) (And.intro (h12) (And.intro (h13) (And.intro (h14) (And.intro (h15) (And.intro (h16) (And.intro (h17) (And.intro (h18) (And.intro (h19) (And.intro (h20) (And.intro (hn) (hk))))))))))))))))))))))
  by_cases z : i = j
  · rw [z, pk_us, tm_upS]
  · rw [pk_un (by omega), tm_upI T z]
    exact h1 i hi
theorem tm_so1 (d j : Nat) (x : Int32) (hd : t ≠ d) (hj : j < 144) (h : tm_Sl (at_, kc, kn, a1, a2, a3, a4, a5, a6, a7, a8, a9, a10, a11, a12, a13, a14, a15, a16, a17, a18, a19, a20, a21, a22, a23, a24) t T) : tm_Sl (at_, kc, kn, upd a1 (d * 144 + j) x, a2, a3, a4, a5, a6, a7, a8, a9, a10, a11, a12, a13, a14, a15, a16, a17, a18, a19, a20, a21, a22, a23, a24) t T := by
  obtain ⟨h1, h2, h3, h4, h5, h6, h7, h8, h9, h10, h11, h12, h13, h14, h15, h16, h17, h18, h19, h20, hn, hk⟩ := h
  exact (And.intro (fun i hi => (pk_un (by omega)).trans (h1 i hi)) (And.intro (h2) (And.intro (h3) (And.intro (h4) (And.intro (h5) (And.intro (h6) (And.intro (h7) (And.intro (h8) (And.intro (h9) (And.intro (h10) (And.intro (h11) (And.intro (h12) (And.intro (h13) (And.intro (h14) (And.intro (h15) (And.intro (h16) (And.intro (h17) (And.intro (h18) (And.intro (h19) (And.intro (h20) (And.intro (hn) (hk))))))))))))))))))))))
theorem tm_r1 {i : Int32} {j : Nat} (h : tm_R (at_, kc, kn, a1, a2, a3, a4, a5, a6, a7, a8, a9, a10, a11, a12, a13, a14, a15, a16, a17, a18, a19, a20, a21, a22, a23, a24) t T O) (hi : i = nI (t * 144 + j)) (hj : j < 144) : a1 i.toNatClampNeg = nI (T 1 j) := by
  have ht := h.2.1
  rw [hi, nI_clamp (by omega)]
  exact tm_s1 h.2.2.1 j hj
theorem tm_w1 {i : Int32} {j : Nat} {x : Nat → Int32} {y : Int32} {v : Nat} (h : tm_R (at_, kc, kn, a1, a2, a3, a4, a5, a6, a7, a8, a9, a10, a11, a12, a13, a14, a15, a16, a17, a18, a19, a20, a21, a22, a23, a24) t T O) (hi : i = nI (t * 144 + j)) (hj : j < 144) (e : x = upd a1 i.toNatClampNeg y) (hy : y = nI v) : tm_R (at_, kc, kn, x, a2, a3, a4, a5, a6, a7, a8, a9, a10, a11, a12, a13, a14, a15, a16, a17, a18, a19, a20, a21, a22, a23, a24) t (tm_up T 1 j v) O := by
  have ht := h.2.1
  subst e hy hi
  rw [nI_clamp (show t * 144 + j < 2 ^ 31 by omega)]
  exact (And.intro (h.1) (And.intro (h.2.1) (And.intro (tm_sw1 v j hj h.2.2.1) (tm_so1 t j _ (by omega) hj h.2.2.2))))
theorem tm_sw2 (v j : Nat) (hj : j < 144) (h : tm_Sl (at_, kc, kn, a1, a2, a3, a4, a5, a6, a7, a8, a9, a10, a11, a12, a13, a14, a15, a16, a17, a18, a19, a20, a21, a22, a23, a24) t T) : tm_Sl (at_, kc, kn, a1, upd a2 (t * 144 + j) (nI v), a3, a4, a5, a6, a7, a8, a9, a10, a11, a12, a13, a14, a15, a16, a17, a18, a19, a20, a21, a22, a23, a24) t (tm_up T 2 j v) := by
  obtain ⟨h1, h2, h3, h4, h5, h6, h7, h8, h9, h10, h11, h12, h13, h14, h15, h16, h17, h18, h19, h20, hn, hk⟩ := h
  refine (And.intro (h1) (And.intro (fun i hi => ?_) (And.intro (h3) (And.intro (h4) (And.intro (h5) (And.intro (h6) (And.intro (h7) (And.intro (h8) (And.intro (h9) (And.intro (h10) (And.intro (h11) (And.intro (h12) (And.intro (h13) (And.intro (h14) (And.intro (h15) (And.intro (h16) (And.intro (h17) (And.intro (h18) (And.intro (h19) (And.intro (h20) (And.intro (hn) (hk))))))))))))))))))))))
  by_cases z : i = j
  · rw [z, pk_us, tm_upS]
  · rw [pk_un (by omega), tm_upI T z]
    exact h2 i hi
theorem tm_so2 (d j : Nat) (x : Int32) (hd : t ≠ d) (hj : j < 144) (h : tm_Sl (at_, kc, kn, a1, a2, a3, a4, a5, a6, a7, a8, a9, a10, a11, a12, a13, a14, a15, a16, a17, a18, a19, a20, a21, a22, a23, a24) t T) : tm_Sl (at_, kc, kn, a1, upd a2 (d * 144 + j) x, a3, a4, a5, a6, a7, a8, a9, a10, a11, a12, a13, a14, a15, a16, a17, a18, a19, a20, a21, a22, a23, a24) t T := by
  obtain ⟨h1, h2, h3, h4, h5, h6, h7, h8, h9, h10, h11, h12, h13, h14, h15, h16, h17, h18, h19, h20, hn, hk⟩ := h
  exact (And.intro (h1) (And.intro (fun i hi => (pk_un (by omega)).trans (h2 i hi)) (And.intro (h3) (And.intro (h4) (And.intro (h5) (And.intro (h6) (And.intro (h7) (And.intro (h8) (And.intro (h9) (And.intro (h10) (And.intro (h11) (And.intro (h12) (And.intro (h13) (And.intro (h14) (And.intro (h15) (And.intro (h16) (And.intro (h17) (And.intro (h18) (And.intro (h19) (And.intro (h20) (And.intro (hn) (hk))))))))))))))))))))))
theorem tm_r2 {i : Int32} {j : Nat} (h : tm_R (at_, kc, kn, a1, a2, a3, a4, a5, a6, a7, a8, a9, a10, a11, a12, a13, a14, a15, a16, a17, a18, a19, a20, a21, a22, a23, a24) t T O) (hi : i = nI (t * 144 + j)) (hj : j < 144) : a2 i.toNatClampNeg = nI (T 2 j) := by
  have ht := h.2.1
  rw [hi, nI_clamp (by omega)]
  exact tm_s2 h.2.2.1 j hj
theorem tm_w2 {i : Int32} {j : Nat} {x : Nat → Int32} {y : Int32} {v : Nat} (h : tm_R (at_, kc, kn, a1, a2, a3, a4, a5, a6, a7, a8, a9, a10, a11, a12, a13, a14, a15, a16, a17, a18, a19, a20, a21, a22, a23, a24) t T O) (hi : i = nI (t * 144 + j)) (hj : j < 144) (e : x = upd a2 i.toNatClampNeg y) (hy : y = nI v) : tm_R (at_, kc, kn, a1, x, a3, a4, a5, a6, a7, a8, a9, a10, a11, a12, a13, a14, a15, a16, a17, a18, a19, a20, a21, a22, a23, a24) t (tm_up T 2 j v) O := by
  have ht := h.2.1
  subst e hy hi
  rw [nI_clamp (show t * 144 + j < 2 ^ 31 by omega)]
  exact (And.intro (h.1) (And.intro (h.2.1) (And.intro (tm_sw2 v j hj h.2.2.1) (tm_so2 t j _ (by omega) hj h.2.2.2))))
theorem tm_sw3 (v j : Nat) (hj : j < 12) (h : tm_Sl (at_, kc, kn, a1, a2, a3, a4, a5, a6, a7, a8, a9, a10, a11, a12, a13, a14, a15, a16, a17, a18, a19, a20, a21, a22, a23, a24) t T) : tm_Sl (at_, kc, kn, a1, a2, upd a3 (t * 12 + j) (nI v), a4, a5, a6, a7, a8, a9, a10, a11, a12, a13, a14, a15, a16, a17, a18, a19, a20, a21, a22, a23, a24) t (tm_up T 3 j v) := by
  obtain ⟨h1, h2, h3, h4, h5, h6, h7, h8, h9, h10, h11, h12, h13, h14, h15, h16, h17, h18, h19, h20, hn, hk⟩ := h
  refine (And.intro (h1) (And.intro (h2) (And.intro (fun i hi => ?_) (And.intro (h4) (And.intro (h5) (And.intro (h6) (And.intro (h7) (And.intro (h8) (And.intro (h9) (And.intro (h10) (And.intro (h11) (And.intro (h12) (And.intro (h13) (And.intro (h14) (And.intro (h15) (And.intro (h16) (And.intro (h17) (And.intro (h18) (And.intro (h19) (And.intro (h20) (And.intro (hn) (hk))))))))))))))))))))))
  by_cases z : i = j
  · rw [z, pk_us, tm_upS]
  · rw [pk_un (by omega), tm_upI T z]
    exact h3 i hi
theorem tm_so3 (d j : Nat) (x : Int32) (hd : t ≠ d) (hj : j < 12) (h : tm_Sl (at_, kc, kn, a1, a2, a3, a4, a5, a6, a7, a8, a9, a10, a11, a12, a13, a14, a15, a16, a17, a18, a19, a20, a21, a22, a23, a24) t T) : tm_Sl (at_, kc, kn, a1, a2, upd a3 (d * 12 + j) x, a4, a5, a6, a7, a8, a9, a10, a11, a12, a13, a14, a15, a16, a17, a18, a19, a20, a21, a22, a23, a24) t T := by
  obtain ⟨h1, h2, h3, h4, h5, h6, h7, h8, h9, h10, h11, h12, h13, h14, h15, h16, h17, h18, h19, h20, hn, hk⟩ := h
  exact (And.intro (h1) (And.intro (h2) (And.intro (fun i hi => (pk_un (by omega)).trans (h3 i hi)) (And.intro (h4) (And.intro (h5) (And.intro (h6) (And.intro (h7) (And.intro (h8) (And.intro (h9) (And.intro (h10) (And.intro (h11) (And.intro (h12) (And.intro (h13) (And.intro (h14) (And.intro (h15) (And.intro (h16) (And.intro (h17) (And.intro (h18) (And.intro (h19) (And.intro (h20) (And.intro (hn) (hk))))))))))))))))))))))
theorem tm_r3 {i : Int32} {j : Nat} (h : tm_R (at_, kc, kn, a1, a2, a3, a4, a5, a6, a7, a8, a9, a10, a11, a12, a13, a14, a15, a16, a17, a18, a19, a20, a21, a22, a23, a24) t T O) (hi : i = nI (t * 12 + j)) (hj : j < 12) : a3 i.toNatClampNeg = nI (T 3 j) := by
  have ht := h.2.1
  rw [hi, nI_clamp (by omega)]
  exact tm_s3 h.2.2.1 j hj
theorem tm_w3 {i : Int32} {j : Nat} {x : Nat → Int32} {y : Int32} {v : Nat} (h : tm_R (at_, kc, kn, a1, a2, a3, a4, a5, a6, a7, a8, a9, a10, a11, a12, a13, a14, a15, a16, a17, a18, a19, a20, a21, a22, a23, a24) t T O) (hi : i = nI (t * 12 + j)) (hj : j < 12) (e : x = upd a3 i.toNatClampNeg y) (hy : y = nI v) : tm_R (at_, kc, kn, a1, a2, x, a4, a5, a6, a7, a8, a9, a10, a11, a12, a13, a14, a15, a16, a17, a18, a19, a20, a21, a22, a23, a24) t (tm_up T 3 j v) O := by
  have ht := h.2.1
  subst e hy hi
  rw [nI_clamp (show t * 12 + j < 2 ^ 31 by omega)]
  exact (And.intro (h.1) (And.intro (h.2.1) (And.intro (tm_sw3 v j hj h.2.2.1) (tm_so3 t j _ (by omega) hj h.2.2.2))))
end
end
section
/-! cells and rows: what the loops make of a picture -/
def tm_ln (T : tm_T) (r : Nat) : Nat := T 3 (T 12 0 * 6 + r) * 12
def tm_put (T : tm_T) (i s y : Nat) : tm_T := tm_up (tm_up T 1 i s) 2 i y
def tm_emp (l : Nat) : Nat → Nat → tm_T → tm_T
  | 0, _, T => T
  | n + 1, c, T => tm_emp l n (c + 1) (tm_put T (l + c) 32 0)
def tm_ec (T : tm_T) (r f e : Nat) : tm_T := tm_emp (tm_ln T r) (e - f) f T
def tm_erw : Nat → Nat → tm_T → tm_T
  | 0, _, T => T
  | n + 1, r, T => tm_erw n (r + 1) (tm_ec T r 0 12)
def tm_er (T : tm_T) (f e : Nat) : tm_T := tm_erw (e - f) f T
def tm_cc (T : tm_T) (l f to : Nat) : tm_T := tm_put T (l + to) (T 1 (l + f)) (T 2 (l + f))
/-- copies down from place c, n times, each from k places to the left -/
def tm_cd (l k : Nat) : Nat → Nat → tm_T → tm_T
  | 0, _, T => T
  | n + 1, c, T => tm_cd l k n (c - 1) (tm_cc T l (c - k) c)
/-- copies up from place c, n times, each from k places to the right -/
def tm_cu (l k : Nat) : Nat → Nat → tm_T → tm_T
  | 0, _, T => T
  | n + 1, c, T => tm_cu l k n (c + 1) (tm_cc T l (c + k) c)
def tm_tuL (b : Nat) : Nat → Nat → tm_T → tm_T
  | 0, _, T => T
  | n + 1, r, T => tm_tuL b n (r + 1) (tm_up T 3 (b + r) (T 3 (b + r + 1)))
def tm_tu (T : tm_T) (f to : Nat) : tm_T :=
  tm_ec (tm_up (tm_tuL (T 12 0 * 6) (to - f) f T) 3 (T 12 0 * 6 + to) (T 3 (T 12 0 * 6 + f))) to 0 12
def tm_tdL (b : Nat) : Nat → Nat → tm_T → tm_T
  | 0, _, T => T
  | n + 1, r, T => tm_tdL b n (r - 1) (tm_up T 3 (b + r) (T 3 (b + r - 1)))
def tm_td (T : tm_T) (f to : Nat) : tm_T :=
  tm_ec (tm_up (tm_tdL (T 12 0 * 6) (to - f) to T) 3 (T 12 0 * 6 + f) (T 3 (T 12 0 * 6 + to))) f 0 12
def tm_kpL (l b : Nat) : Nat → Nat → tm_T → tm_T
  | 0, _, T => T
  | n + 1, c, T => tm_kpL l b n (c + 1) (tm_up T 24 (b + c) (T 1 (l + c)))
def tm_kp (T : tm_T) : tm_T :=
  tm_up (tm_up (tm_kpL (tm_ln T 0) (T 26 0 * 12) 12 0 T) 26 0 ((T 26 0 + 1) % 8)) 25 0 (if 8 ≤ T 25 0 then 8 else T 25 0 + 1)
def tm_su1 (t : Nat) (T : tm_T) : tm_T :=
  if t = 0 ∧ T 12 0 = 0 ∧ T 8 0 = 0 then tm_tu (tm_kp T) (T 8 0) (T 9 0) else tm_tu T (T 8 0) (T 9 0)
def tm_su (t : Nat) : Nat → tm_T → tm_T
  | 0, T => T
  | n + 1, T => tm_su t n (tm_su1 t T)
def tm_sd : Nat → tm_T → tm_T
  | 0, T => T
  | n + 1, T => tm_sd n (tm_td T (T 8 0) (T 9 0))
/-! what they leave alone -/
theorem tm_emp_o {l n c : Nat} {T : tm_T} {g j : Nat} (h1 : g ≠ 1) (h2 : g ≠ 2) : tm_emp l n c T g j = T g j := by
  induction n generalizing c T with
  | zero => rfl
  | succ n ih => exact ih.trans ((tm_upF _ h2).trans (tm_upF _ h1))
theorem tm_ec_o {T : tm_T} {r f e g j : Nat} (h1 : g ≠ 1) (h2 : g ≠ 2) : tm_ec T r f e g j = T g j := tm_emp_o h1 h2
theorem tm_erw_o {n r : Nat} {T : tm_T} {g j : Nat} (h1 : g ≠ 1) (h2 : g ≠ 2) : tm_erw n r T g j = T g j := by
  induction n generalizing r T with
  | zero => rfl
  | succ n ih => exact ih.trans (tm_ec_o h1 h2)
theorem tm_er_o {T : tm_T} {f e g j : Nat} (h1 : g ≠ 1) (h2 : g ≠ 2) : tm_er T f e g j = T g j := tm_erw_o h1 h2
theorem tm_cc_o {T : tm_T} {l f e g j : Nat} (h1 : g ≠ 1) (h2 : g ≠ 2) : tm_cc T l f e g j = T g j := (tm_upF _ h2).trans (tm_upF _ h1)
theorem tm_cd_o {l k n c : Nat} {T : tm_T} {g j : Nat} (h1 : g ≠ 1) (h2 : g ≠ 2) : tm_cd l k n c T g j = T g j := by
  induction n generalizing c T with
  | zero => rfl
  | succ n ih => exact ih.trans (tm_cc_o h1 h2)
theorem tm_cu_o {l k n c : Nat} {T : tm_T} {g j : Nat} (h1 : g ≠ 1) (h2 : g ≠ 2) : tm_cu l k n c T g j = T g j := by
  induction n generalizing c T with
  | zero => rfl
  | succ n ih => exact ih.trans (tm_cc_o h1 h2)
theorem tm_tuL_o {b n r : Nat} {T : tm_T} {g j : Nat} (h : g ≠ 3) : tm_tuL b n r T g j = T g j := by
  induction n generalizing r T with
  | zero => rfl
  | succ n ih => exact ih.trans (tm_upF _ h)
theorem tm_tdL_o {b n r : Nat} {T : tm_T} {g j : Nat} (h : g ≠ 3) : tm_tdL b n r T g j = T g j := by
  induction n generalizing r T with
  | zero => rfl
  | succ n ih => exact ih.trans (tm_upF _ h)
theorem tm_tu_o {T : tm_T} {f to g j : Nat} (h1 : g ≠ 1) (h2 : g ≠ 2) (h3 : g ≠ 3) : tm_tu T f to g j = T g j :=
  (tm_ec_o h1 h2).trans ((tm_upF _ h3).trans (tm_tuL_o h3))
theorem tm_td_o {T : tm_T} {f to g j : Nat} (h1 : g ≠ 1) (h2 : g ≠ 2) (h3 : g ≠ 3) : tm_td T f to g j = T g j :=
  (tm_ec_o h1 h2).trans ((tm_upF _ h3).trans (tm_tdL_o h3))
theorem tm_kpL_o {l b n c : Nat} {T : tm_T} {g j : Nat} (h : g ≠ 24) : tm_kpL l b n c T g j = T g j := by
  induction n generalizing c T with
  | zero => rfl
  | succ n ih => exact ih.trans (tm_upF _ h)
theorem tm_kp_o {T : tm_T} {g j : Nat} (h : g ≠ 24) (h5 : g ≠ 25) (h6 : g ≠ 26) : tm_kp T g j = T g j :=
  (tm_upF _ h5).trans ((tm_upF _ h6).trans (tm_kpL_o h))
theorem tm_su1_o {t : Nat} {T : tm_T} {g j : Nat} (h1 : g ≠ 1) (h2 : g ≠ 2) (h3 : g ≠ 3) (h : g ≠ 24) (h5 : g ≠ 25) (h6 : g ≠ 26) : tm_su1 t T g j = T g j := by
  unfold tm_su1
  split
  · exact (tm_tu_o h1 h2 h3).trans (tm_kp_o h h5 h6)
  · exact tm_tu_o h1 h2 h3
theorem tm_su_o {t n : Nat} {T : tm_T} {g j : Nat} (h1 : g ≠ 1) (h2 : g ≠ 2) (h3 : g ≠ 3) (h : g ≠ 24) (h5 : g ≠ 25) (h6 : g ≠ 26) : tm_su t n T g j = T g j := by
  induction n generalizing T with
  | zero => rfl
  | succ n ih => exact ih.trans (tm_su1_o h1 h2 h3 h h5 h6)
theorem tm_sd_o {n : Nat} {T : tm_T} {g j : Nat} (h1 : g ≠ 1) (h2 : g ≠ 2) (h3 : g ≠ 3) : tm_sd n T g j = T g j := by
  induction n generalizing T with
  | zero => rfl
  | succ n ih => exact ih.trans (tm_td_o h1 h2 h3)
/-- slots within bounds -/
def tm_Sb (T : tm_T) : Prop := T 12 0 ≤ 1 ∧ ∀ i, T 3 i ≤ 11
theorem tm_Sb_of {T T' : tm_T} (h : tm_Sb T) (h3 : ∀ i, T' 3 i = T 3 i) (h12 : T' 12 0 = T 12 0) : tm_Sb T' :=
  ⟨h12 ▸ h.1, fun i => (h3 i) ▸ h.2 i⟩
theorem tm_Sb_ec {T : tm_T} {r f e : Nat} (h : tm_Sb T) : tm_Sb (tm_ec T r f e) := tm_Sb_of h (fun _ => tm_ec_o (by decide) (by decide)) (tm_ec_o (by decide) (by decide))
theorem tm_Sb_er {T : tm_T} {f e : Nat} (h : tm_Sb T) : tm_Sb (tm_er T f e) := tm_Sb_of h (fun _ => tm_er_o (by decide) (by decide)) (tm_er_o (by decide) (by decide))
theorem tm_Sb_up3 {T : tm_T} {i v : Nat} (h : tm_Sb T) (hv : v ≤ 11) : tm_Sb (tm_up T 3 i v) := by
  refine ⟨h.1, fun j => ?_⟩
  by_cases z : j = i
  · rw [z, tm_upS]
    exact hv
  · rw [tm_upI T z]
    exact h.2 j
theorem tm_Sb_tuL {b n r : Nat} {T : tm_T} (h : tm_Sb T) : tm_Sb (tm_tuL b n r T) := by
  induction n generalizing r T with
  | zero => exact h
  | succ n ih => exact ih (tm_Sb_up3 h (h.2 _))
theorem tm_Sb_tdL {b n r : Nat} {T : tm_T} (h : tm_Sb T) : tm_Sb (tm_tdL b n r T) := by
  induction n generalizing r T with
  | zero => exact h
  | succ n ih => exact ih (tm_Sb_up3 h (h.2 _))
theorem tm_Sb_tu {T : tm_T} {f to : Nat} (h : tm_Sb T) : tm_Sb (tm_tu T f to) := tm_Sb_ec (tm_Sb_up3 (tm_Sb_tuL h) (h.2 _))
theorem tm_Sb_td {T : tm_T} {f to : Nat} (h : tm_Sb T) : tm_Sb (tm_td T f to) := tm_Sb_ec (tm_Sb_up3 (tm_Sb_tdL h) (h.2 _))
theorem tm_Sb_kp {T : tm_T} (h : tm_Sb T) : tm_Sb (tm_kp T) := tm_Sb_of h (fun _ => tm_kp_o (by decide) (by decide) (by decide)) (tm_kp_o (by decide) (by decide) (by decide))
theorem tm_Sb_su1 {t : Nat} {T : tm_T} (h : tm_Sb T) : tm_Sb (tm_su1 t T) := by
  unfold tm_su1
  split
  · exact tm_Sb_tu (tm_Sb_kp h)
  · exact tm_Sb_tu h
theorem tm_ln_le {T : tm_T} {r : Nat} (h : tm_Sb T) : tm_ln T r + 12 ≤ 144 := by
  have := h.2 (T 12 0 * 6 + r)
  unfold tm_ln
  omega
/-! the walks -/
theorem tm_ix1 (t o r : Nat) : ((nI t * 2) + nI o) * 6 + nI r = nI (t * 12 + (o * 6 + r)) := by
  rw [show (2 : Int32) = nI 2 from rfl, show (6 : Int32) = nI 6 from rfl, pk_mul, nI_add, pk_mul, nI_add]
  congr 1
  omega
theorem tm_ix2 (t s : Nat) : ((nI t * 12) + nI s) * 12 = nI (t * 144 + s * 12) := by
  rw [show (12 : Int32) = nI 12 from rfl, pk_mul, nI_add, pk_mul]
  congr 1
  omega
theorem tm_ix3 (t l c : Nat) : nI (t * 144 + l) + nI c = nI (t * 144 + (l + c)) := by
  rw [nI_add]
  congr 1
  omega
theorem tm_screen {post : Int32 → Prop} {u : St1} {t : Nat} {T O : tm_T} (h : tm_R u t T O) (hp : post (nI (t * 2 + T 12 0))) : wpX_screen post u := by
  obtain ⟨at_, kc, kn, a1, a2, a3, a4, a5, a6, a7, a8, a9, a10, a11, a12, a13, a14, a15, a16, a17, a18, a19, a20, a21, a22, a23, a24⟩ := u
  have e : at_ * 2 + a12 at_.toNatClampNeg = nI (t * 2 + T 12 0) := by
    rw [tm_r12 h, tm_at h, show (2 : Int32) = nI 2 from rfl, pk_mul, nI_add]
  exact And.intro (tm_in h) ((congrArg post e).mpr hp)
theorem tm_lineAt {post : Int32 → Prop} {u : St1} {t r : Nat} {T O : tm_T} (h : tm_R u t T O) (hb : tm_Sb T) (hr : r < 6) (hp : post (nI (t * 144 + tm_ln T r))) : wpX_lineAt post u (nI r) := by
  obtain ⟨at_, kc, kn, a1, a2, a3, a4, a5, a6, a7, a8, a9, a10, a11, a12, a13, a14, a15, a16, a17, a18, a19, a20, a21, a22, a23, a24⟩ := u
  have ht := tm_lt h
  have h12 := hb.1
  have e1 : (at_ * 2 + a12 at_.toNatClampNeg) * 6 + nI r = nI (t * 12 + (T 12 0 * 6 + r)) := by
    rw [tm_r12 h, tm_at h]
    exact tm_ix1 _ _ _
  have e2 : ((at_ * 12) + a3 ((at_ * 2 + a12 at_.toNatClampNeg) * 6 + nI r).toNatClampNeg) * 12 = nI (t * 144 + tm_ln T r) := by
    rw [tm_r3 h e1 (by omega), tm_at h]
    exact tm_ix2 _ _
  exact (And.intro (tm_in h) (And.intro (pk_in (t * 12 + (T 12 0 * 6 + r)) 24 (by omega) e1) ((congrArg post e2).mpr hp)))
theorem tm_put_R {at_ kc kn a1 a2 a3 a4 a5 a6 a7 a8 a9 a10 a11 a12 a13 a14 a15 a16 a17 a18 a19 a20 a21 a22 a23 a24} {t i : Nat} {T O : tm_T} {x : Int32} {b1 b2 : Nat → Int32} {y1 y2 : Int32} {s y : Nat} (h : tm_R (at_, kc, kn, a1, a2, a3, a4, a5, a6, a7, a8, a9, a10, a11, a12, a13, a14, a15, a16, a17, a18, a19, a20, a21, a22, a23, a24) t T O) (hx : x = nI (t * 144 + i)) (hi : i < 144) (e1 : b1 = upd a1 x.toNatClampNeg y1) (h1 : y1 = nI s) (e2 : b2 = upd a2 x.toNatClampNeg y2) (h2 : y2 = nI y) : tm_R (at_, kc, kn, b1, b2, a3, a4, a5, a6, a7, a8, a9, a10, a11, a12, a13, a14, a15, a16, a17, a18, a19, a20, a21, a22, a23, a24) t (tm_put T i s y) O :=
  tm_w2 (tm_w1 h hx hi e1 h1) hx hi e2 h2
theorem tm_emptyL {post : St1 → Prop} {t l e : Nat} {O : tm_T} (hl : l + 12 ≤ 144) (he : e ≤ 12) : ∀ (n c : Nat) (T : tm_T) (at_ kc kn a1 a2 a3 a4 a5 a6 a7 a8 a9 a10 a11 a12 a13 a14 a15 a16 a17 a18 a19 a20 a21 a22 a23 a24), c + n = e → tm_R (at_, kc, kn, a1, a2, a3, a4, a5, a6, a7, a8, a9, a10, a11, a12, a13, a14, a15, a16, a17, a18, a19, a20, a21, a22, a23, a24) t T O → (∀ u', tm_R u' t (tm_emp l n c T) O → post u') → wX_emptyCells_10 post (nI e) (nI (t * 144 + l)) at_ kc kn (n + 1) (nI c) a1 a2 a3 a4 a5 a6 a7 a8 a9 a10 a11 a12 a13 a14 a15 a16 a17 a18 a19 a20 a21 a22 a23 a24 := by
  intro n
  induction n with
  | zero =>
    intro c T at_ kc kn a1 a2 a3 a4 a5 a6 a7 a8 a9 a10 a11 a12 a13 a14 a15 a16 a17 a18 a19 a20 a21 a22 a23 a24 hc h hp
    exact pk_le e c (fun _ => hp _ h) (fun z => absurd z (by omega))
  | succ n ih =>
    intro c T at_ kc kn a1 a2 a3 a4 a5 a6 a7 a8 a9 a10 a11 a12 a13 a14 a15 a16 a17 a18 a19 a20 a21 a22 a23 a24 hc h hp
    have ht := tm_lt h
    have ix := tm_ix3 t l c
    refine pk_le e c (fun z => absurd z (by omega)) (fun _ => (And.intro (pk_in _ _ (by omega) ix) (fun b1 e1 => (And.intro (pk_in _ _ (by omega) ix) (fun b2 e2 => nm_r (nI_1 c) ?_)))))
    exact ih (c + 1) _ _ _ _ _ _ _ _ _ _ _ _ _ _ _ _ _ _ _ _ _ _ _ _ _ _ _ _ (by omega) (tm_put_R (s := 32) (y := 0) h ix (by omega) e1 rfl e2 rfl) hp
theorem tm_emptyCells {post : St1 → Prop} {u : St1} {t r f e : Nat} {T O : tm_T} (h : tm_R u t T O) (hb : tm_Sb T) (hr : r < 6) (hf : f ≤ e) (he : e ≤ 12) (hp : ∀ u', tm_R u' t (tm_ec T r f e) O → post u') : wpX_emptyCells post u (nI r) (nI f) (nI e) := by
  obtain ⟨at_, kc, kn, a1, a2, a3, a4, a5, a6, a7, a8, a9, a10, a11, a12, a13, a14, a15, a16, a17, a18, a19, a20, a21, a22, a23, a24⟩ := u
  unfold wpX_emptyCells
  refine tm_lineAt h hb hr ?_
  exact ⟨e - f + 1, tm_emptyL (tm_ln_le hb) he (e - f) f T at_ kc kn a1 a2 a3 a4 a5 a6 a7 a8 a9 a10 a11 a12 a13 a14 a15 a16 a17 a18 a19 a20 a21 a22 a23 a24 (by omega) h hp⟩
theorem tm_emptyRL {post : St1 → Prop} {t e : Nat} {O : tm_T} (he : e ≤ 6) : ∀ (n r : Nat) (T : tm_T) (at_ kc kn a1 a2 a3 a4 a5 a6 a7 a8 a9 a10 a11 a12 a13 a14 a15 a16 a17 a18 a19 a20 a21 a22 a23 a24), r + n = e → tm_Sb T → tm_R (at_, kc, kn, a1, a2, a3, a4, a5, a6, a7, a8, a9, a10, a11, a12, a13, a14, a15, a16, a17, a18, a19, a20, a21, a22, a23, a24) t T O → (∀ u', tm_R u' t (tm_erw n r T) O → post u') → wX_emptyRows_2 post (nI e) (n + 1) (nI r) at_ kc kn a1 a2 a3 a4 a5 a6 a7 a8 a9 a10 a11 a12 a13 a14 a15 a16 a17 a18 a19 a20 a21 a22 a23 a24 := by
  intro n
  induction n with
  | zero =>
    intro c T at_ kc kn a1 a2 a3 a4 a5 a6 a7 a8 a9 a10 a11 a12 a13 a14 a15 a16 a17 a18 a19 a20 a21 a22 a23 a24 hc hb h hp
    exact pk_le e c (fun _ => hp _ h) (fun z => absurd z (by omega))
  | succ n ih =>
    intro c T at_ kc kn a1 a2 a3 a4 a5 a6 a7 a8 a9 a10 a11 a12 a13 a14 a15 a16 a17 a18 a19 a20 a21 a22 a23 a24 hc hb h hp
    refine pk_le e c (fun z => absurd z (by omega)) (fun _ => tm_emptyCells (f := 0) (e := 12) h hb (by omega) (by omega) (by omega) ?_)
    intro u' h'
    obtain ⟨at_, kc, kn, a1, a2, a3, a4, a5, a6, a7, a8, a9, a10, a11, a12, a13, a14, a15, a16, a17, a18, a19, a20, a21, a22, a23, a24⟩ := u'
    exact nm_r (nI_1 c) (ih (c + 1) _ at_ kc kn a1 a2 a3 a4 a5 a6 a7 a8 a9 a10 a11 a12 a13 a14 a15 a16 a17 a18 a19 a20 a21 a22 a23 a24 (by omega) (tm_Sb_ec hb) h' hp)
theorem tm_emptyRows {post : St1 → Prop} {u : St1} {t f e : Nat} {T O : tm_T} (h : tm_R u t T O) (hb : tm_Sb T) (hf : f ≤ e) (he : e ≤ 6) (hp : ∀ u', tm_R u' t (tm_er T f e) O → post u') : wpX_emptyRows post u (nI f) (nI e) := by
  obtain ⟨at_, kc, kn, a1, a2, a3, a4, a5, a6, a7, a8, a9, a10, a11, a12, a13, a14, a15, a16, a17, a18, a19, a20, a21, a22, a23, a24⟩ := u
  exact ⟨e - f + 1, tm_emptyRL he (e - f) f T at_ kc kn a1 a2 a3 a4 a5 a6 a7 a8 a9 a10 a11 a12 a13 a14 a15 a16 a17 a18 a19 a20 a21 a22 a23 a24 (by omega) hb h hp⟩
/-- signs and styles fit a byte -/
def tm_Cb (T : tm_T) : Prop := ∀ i, T 1 i < 128 ∧ T 2 i < 128
theorem tm_Cb_cc {T : tm_T} {l f e : Nat} (h : tm_Cb T) : tm_Cb (tm_cc T l f e) := by
  intro i
  unfold tm_cc tm_put
  refine ⟨?_, ?_⟩
  · rw [tm_upF _ (by decide)]
    by_cases z : i = l + e
    · rw [z, tm_upS]
      exact (h _).1
    · rw [tm_upI _ z]
      exact (h i).1
  · by_cases z : i = l + e
    · rw [z, tm_upS]
      exact (h _).2
    · rw [tm_upI _ z, tm_upF _ (by decide)]
      exact (h i).2
theorem tm_copyCell {post : St1 → Prop} {u : St1} {t l f to : Nat} {T O : tm_T} (h : tm_R u t T O) (hc : tm_Cb T) (hf : l + f < 144) (hto : l + to < 144) (hp : ∀ u', tm_R u' t (tm_cc T l f to) O → post u') : wpX_copyCell post u (nI (t * 144 + l)) (nI f) (nI to) := by
  obtain ⟨at_, kc, kn, a1, a2, a3, a4, a5, a6, a7, a8, a9, a10, a11, a12, a13, a14, a15, a16, a17, a18, a19, a20, a21, a22, a23, a24⟩ := u
  have ht := tm_lt h
  have i1 := tm_ix3 t l f
  have i2 := tm_ix3 t l to
  exact (And.intro (pk_in _ _ (by omega) i1) (And.intro (pk_in _ _ (by omega) i2) (fun b1 e1 => (And.intro (pk_in _ _ (by omega) i1) (And.intro (pk_in _ _ (by omega) i2) (fun b2 e2 => hp _ (tm_put_R h i2 hto e1 (tm_nc' (hc _).1 (tm_r1 h i1 hf)) e2 (tm_nc' (hc _).2 (tm_r2 h i1 hf)))))))))
theorem tm_turnUL {post : St1 → Prop} {t b to s : Nat} {O : tm_T} (hb6 : b ≤ 6) (hto : to < 6) (hs : s ≤ 11) : ∀ (n r : Nat) (T : tm_T) (at_ kc kn a1 a2 a3 a4 a5 a6 a7 a8 a9 a10 a11 a12 a13 a14 a15 a16 a17 a18 a19 a20 a21 a22 a23 a24), r + n = to → T 12 0 * 6 = b → tm_Sb T → tm_R (at_, kc, kn, a1, a2, a3, a4, a5, a6, a7, a8, a9, a10, a11, a12, a13, a14, a15, a16, a17, a18, a19, a20, a21, a22, a23, a24) t T O → (∀ u', tm_R u' t (tm_ec (tm_up (tm_tuL b n r T) 3 (b + to) s) to 0 12) O → post u') → wX_turnUp_21 post (nI to) (nI (t * 12 + b)) (nI s) at_ kc kn (n + 1) (nI r) a1 a2 a3 a4 a5 a6 a7 a8 a9 a10 a11 a12 a13 a14 a15 a16 a17 a18 a19 a20 a21 a22 a23 a24 := by
  intro n
  induction n with
  | zero =>
    intro r T at_ kc kn a1 a2 a3 a4 a5 a6 a7 a8 a9 a10 a11 a12 a13 a14 a15 a16 a17 a18 a19 a20 a21 a22 a23 a24 hr h12 hb h hp
    have ht := tm_lt h
    have ix : nI (t * 12 + b) + nI to = nI (t * 12 + (b + to)) := by
      rw [nI_add]
      congr 1
      omega
    refine pk_le to r (fun _ => (And.intro (pk_in _ _ (by omega) ix) (fun b3 e3 => ?_))) (fun z => absurd z (by omega))
    exact tm_emptyCells (f := 0) (e := 12) (tm_w3 h ix (by omega) e3 (tm_nc' (by omega) rfl)) (tm_Sb_up3 hb hs) hto (by omega) (by omega) hp
  | succ n ih =>
    intro r T at_ kc kn a1 a2 a3 a4 a5 a6 a7 a8 a9 a10 a11 a12 a13 a14 a15 a16 a17 a18 a19 a20 a21 a22 a23 a24 hr h12 hb h hp
    have ht := tm_lt h
    have ix : nI (t * 12 + b) + nI r = nI (t * 12 + (b + r)) := by
      rw [nI_add]
      congr 1
      omega
    have iy : nI (t * 12 + b) + nI r + 1 = nI (t * 12 + (b + r + 1)) := by
      rw [ix, nI_1]
      congr 1
    have hv := hb.2 (b + r + 1)
    refine pk_le to r (fun z => absurd z (by omega)) (fun _ => (And.intro (pk_in _ _ (by omega) iy) (And.intro (pk_in _ _ (by omega) ix) (fun b3 e3 => nm_r (nI_1 r) ?_))))
    exact ih (r + 1) (tm_up T 3 (b + r) (T 3 (b + r + 1))) _ _ _ _ _ _ _ _ _ _ _ _ _ _ _ _ _ _ _ _ _ _ _ _ _ _ _ (by omega) h12 (tm_Sb_up3 hb hv) (tm_w3 h ix (by omega) e3 (tm_nc' (by omega) (tm_r3 h iy (by omega)))) hp
theorem tm_turnUp {post : St1 → Prop} {u : St1} {t f to : Nat} {T O : tm_T} (h : tm_R u t T O) (hb : tm_Sb T) (hf : f ≤ to) (hto : to < 6) (hp : ∀ u', tm_R u' t (tm_tu T f to) O → post u') : wpX_turnUp post u (nI f) (nI to) := by
  obtain ⟨at_, kc, kn, a1, a2, a3, a4, a5, a6, a7, a8, a9, a10, a11, a12, a13, a14, a15, a16, a17, a18, a19, a20, a21, a22, a23, a24⟩ := u
  have ht := tm_lt h
  have h12 := hb.1
  have e6 : nI (t * 2 + T 12 0) * 6 = nI (t * 12 + T 12 0 * 6) := by
    rw [show (6 : Int32) = nI 6 from rfl, pk_mul]
    congr 1
    omega
  have ix : nI (t * 12 + T 12 0 * 6) + nI f = nI (t * 12 + (T 12 0 * 6 + f)) := by
    rw [nI_add]
    congr 1
    omega
  unfold wpX_turnUp
  refine tm_screen h ?_
  refine nm_r e6 (And.intro (pk_in _ _ (by omega) ix) (nm_r (tm_r3 h ix (by omega)) ?_))
  exact ⟨to - f + 1, tm_turnUL (by omega) hto (hb.2 _) (to - f) f T at_ kc kn a1 a2 a3 a4 a5 a6 a7 a8 a9 a10 a11 a12 a13 a14 a15 a16 a17 a18 a19 a20 a21 a22 a23 a24 (by omega) rfl hb h hp⟩
theorem tm_turnDL {post : St1 → Prop} {t b f s : Nat} {O : tm_T} (hb6 : b ≤ 6) (hf : f < 6) (hs : s ≤ 11) : ∀ (n r : Nat) (T : tm_T) (at_ kc kn a1 a2 a3 a4 a5 a6 a7 a8 a9 a10 a11 a12 a13 a14 a15 a16 a17 a18 a19 a20 a21 a22 a23 a24), f + n = r → r < 6 → T 12 0 * 6 = b → tm_Sb T → tm_R (at_, kc, kn, a1, a2, a3, a4, a5, a6, a7, a8, a9, a10, a11, a12, a13, a14, a15, a16, a17, a18, a19, a20, a21, a22, a23, a24) t T O → (∀ u', tm_R u' t (tm_ec (tm_up (tm_tdL b n r T) 3 (b + f) s) f 0 12) O → post u') → wX_turnDown_21 post (nI f) (nI (t * 12 + b)) (nI s) at_ kc kn (n + 1) (nI r) a1 a2 a3 a4 a5 a6 a7 a8 a9 a10 a11 a12 a13 a14 a15 a16 a17 a18 a19 a20 a21 a22 a23 a24 := by
  intro n
  induction n with
  | zero =>
    intro r T at_ kc kn a1 a2 a3 a4 a5 a6 a7 a8 a9 a10 a11 a12 a13 a14 a15 a16 a17 a18 a19 a20 a21 a22 a23 a24 hr hr6 h12 hb h hp
    have ht := tm_lt h
    have ix : nI (t * 12 + b) + nI f = nI (t * 12 + (b + f)) := by
      rw [nI_add]
      congr 1
      omega
    refine pk_le r f (fun _ => (And.intro (pk_in _ _ (by omega) ix) (fun b3 e3 => ?_))) (fun z => absurd z (by omega))
    exact tm_emptyCells (f := 0) (e := 12) (tm_w3 h ix (by omega) e3 (tm_nc' (by omega) rfl)) (tm_Sb_up3 hb hs) hf (by omega) (by omega) hp
  | succ n ih =>
    intro r T at_ kc kn a1 a2 a3 a4 a5 a6 a7 a8 a9 a10 a11 a12 a13 a14 a15 a16 a17 a18 a19 a20 a21 a22 a23 a24 hr hr6 h12 hb h hp
    have ht := tm_lt h
    have ix : nI (t * 12 + b) + nI r = nI (t * 12 + (b + r)) := by
      rw [nI_add]
      congr 1
      omega
    have iy : nI (t * 12 + b) + nI r - 1 = nI (t * 12 + (b + r - 1)) := by
      rw [ix, show t * 12 + (b + r) = t * 12 + (b + r - 1) + 1 by omega]
      exact nI_pred _
    have hv := hb.2 (b + r - 1)
    refine pk_le r f (fun z => absurd z (by omega)) (fun _ => (And.intro (pk_in _ _ (by omega) iy) (And.intro (pk_in _ _ (by omega) ix) (fun b3 e3 => nm_r (sb_m1 (by omega)) ?_))))
    exact ih (r - 1) (tm_up T 3 (b + r) (T 3 (b + r - 1))) _ _ _ _ _ _ _ _ _ _ _ _ _ _ _ _ _ _ _ _ _ _ _ _ _ _ _ (by omega) (by omega) h12 (tm_Sb_up3 hb hv) (tm_w3 h ix (by omega) e3 (tm_nc' (by omega) (tm_r3 h iy (by omega)))) hp
theorem tm_turnDown {post : St1 → Prop} {u : St1} {t f to : Nat} {T O : tm_T} (h : tm_R u t T O) (hb : tm_Sb T) (hf : f ≤ to) (hto : to < 6) (hp : ∀ u', tm_R u' t (tm_td T f to) O → post u') : wpX_turnDown post u (nI f) (nI to) := by
  obtain ⟨at_, kc, kn, a1, a2, a3, a4, a5, a6, a7, a8, a9, a10, a11, a12, a13, a14, a15, a16, a17, a18, a19, a20, a21, a22, a23, a24⟩ := u
  have ht := tm_lt h
  have h12 := hb.1
  have e6 : nI (t * 2 + T 12 0) * 6 = nI (t * 12 + T 12 0 * 6) := by
    rw [show (6 : Int32) = nI 6 from rfl, pk_mul]
    congr 1
    omega
  have ix : nI (t * 12 + T 12 0 * 6) + nI to = nI (t * 12 + (T 12 0 * 6 + to)) := by
    rw [nI_add]
    congr 1
    omega
  unfold wpX_turnDown
  refine tm_screen h ?_
  refine nm_r e6 (And.intro (pk_in _ _ (by omega) ix) (nm_r (tm_r3 h ix (by omega)) ?_))
  exact ⟨to - f + 1, tm_turnDL (by omega) (by omega) (hb.2 _) (to - f) to T at_ kc kn a1 a2 a3 a4 a5 a6 a7 a8 a9 a10 a11 a12 a13 a14 a15 a16 a17 a18 a19 a20 a21 a22 a23 a24 (by omega) hto rfl hb h hp⟩
end
section
/-! bounds of a picture -/
def tm_hg (f : Nat) : Nat := match f with
  | 1 => 126 | 2 => 7 | 3 => 11 | 4 => 5 | 5 => 11 | 6 => 1 | 7 => 7 | 8 => 5 | 9 => 5 | 10 => 1 | 11 => 1 | 12 => 1 | 13 => 5 | 14 => 11 | 15 => 7 | 16 => 5 | 17 => 11 | 18 => 5 | 19 => 5 | 20 => 3 | 21 => 1 | 22 => 5 | 23 => 99 | 24 => 126 | 25 => 8 | 26 => 7 | 27 => 1 | _ => 0
def tm_lw (f : Nat) : Nat := match f with
  | 1 => 32 | 22 => 1 | _ => 0
def tm_B (T : tm_T) : Prop := ∀ f i, tm_lw f ≤ T f i ∧ T f i ≤ tm_hg f
theorem tm_b1 {T : tm_T} (h : tm_B T) (i : Nat) : T 1 i ≤ 126 := (h 1 i).2
theorem tm_b2 {T : tm_T} (h : tm_B T) (i : Nat) : T 2 i ≤ 7 := (h 2 i).2
theorem tm_b3 {T : tm_T} (h : tm_B T) (i : Nat) : T 3 i ≤ 11 := (h 3 i).2
theorem tm_b4 {T : tm_T} (h : tm_B T) (i : Nat) : T 4 i ≤ 5 := (h 4 i).2
theorem tm_b5 {T : tm_T} (h : tm_B T) (i : Nat) : T 5 i ≤ 11 := (h 5 i).2
theorem tm_b6 {T : tm_T} (h : tm_B T) (i : Nat) : T 6 i ≤ 1 := (h 6 i).2
theorem tm_b7 {T : tm_T} (h : tm_B T) (i : Nat) : T 7 i ≤ 7 := (h 7 i).2
theorem tm_b8 {T : tm_T} (h : tm_B T) (i : Nat) : T 8 i ≤ 5 := (h 8 i).2
theorem tm_b9 {T : tm_T} (h : tm_B T) (i : Nat) : T 9 i ≤ 5 := (h 9 i).2
theorem tm_b10 {T : tm_T} (h : tm_B T) (i : Nat) : T 10 i ≤ 1 := (h 10 i).2
theorem tm_b11 {T : tm_T} (h : tm_B T) (i : Nat) : T 11 i ≤ 1 := (h 11 i).2
theorem tm_b12 {T : tm_T} (h : tm_B T) (i : Nat) : T 12 i ≤ 1 := (h 12 i).2
theorem tm_b13 {T : tm_T} (h : tm_B T) (i : Nat) : T 13 i ≤ 5 := (h 13 i).2
theorem tm_b14 {T : tm_T} (h : tm_B T) (i : Nat) : T 14 i ≤ 11 := (h 14 i).2
theorem tm_b15 {T : tm_T} (h : tm_B T) (i : Nat) : T 15 i ≤ 7 := (h 15 i).2
theorem tm_b16 {T : tm_T} (h : tm_B T) (i : Nat) : T 16 i ≤ 5 := (h 16 i).2
theorem tm_b17 {T : tm_T} (h : tm_B T) (i : Nat) : T 17 i ≤ 11 := (h 17 i).2
theorem tm_b18 {T : tm_T} (h : tm_B T) (i : Nat) : T 18 i ≤ 5 := (h 18 i).2
theorem tm_b19 {T : tm_T} (h : tm_B T) (i : Nat) : T 19 i ≤ 5 := (h 19 i).2
theorem tm_b20 {T : tm_T} (h : tm_B T) (i : Nat) : T 20 i ≤ 3 := (h 20 i).2
theorem tm_b21 {T : tm_T} (h : tm_B T) (i : Nat) : T 21 i ≤ 1 := (h 21 i).2
theorem tm_b22 {T : tm_T} (h : tm_B T) (i : Nat) : T 22 i ≤ 5 := (h 22 i).2
theorem tm_b23 {T : tm_T} (h : tm_B T) (i : Nat) : T 23 i ≤ 99 := (h 23 i).2
theorem tm_b24 {T : tm_T} (h : tm_B T) (i : Nat) : T 24 i ≤ 126 := (h 24 i).2
theorem tm_b25 {T : tm_T} (h : tm_B T) (i : Nat) : T 25 i ≤ 8 := (h 25 i).2
theorem tm_b26 {T : tm_T} (h : tm_B T) (i : Nat) : T 26 i ≤ 7 := (h 26 i).2
theorem tm_b27 {T : tm_T} (h : tm_B T) (i : Nat) : T 27 i ≤ 1 := (h 27 i).2
theorem tm_c1 {T : tm_T} (h : tm_B T) (i : Nat) : 32 ≤ T 1 i := (h 1 i).1
theorem tm_c22 {T : tm_T} (h : tm_B T) (i : Nat) : 1 ≤ T 22 i := (h 22 i).1
theorem tm_B_up {T : tm_T} {f i v : Nat} (h : tm_B T) (h1 : tm_lw f ≤ v) (h2 : v ≤ tm_hg f) : tm_B (tm_up T f i v) := by
  intro g j
  unfold tm_up
  split
  · rename_i z
    rw [z.1]
    exact ⟨h1, h2⟩
  · exact h g j
theorem tm_B_put {T : tm_T} {i s y : Nat} (h : tm_B T) (h1 : 32 ≤ s) (h2 : s ≤ 126) (h3 : y ≤ 7) : tm_B (tm_put T i s y) := tm_B_up (tm_B_up h h1 h2) (Nat.zero_le _) h3
theorem tm_B_emp {l n c : Nat} {T : tm_T} (h : tm_B T) : tm_B (tm_emp l n c T) := by
  induction n generalizing c T with
  | zero => exact h
  | succ n ih => exact ih (tm_B_put h (by decide) (by decide) (by decide))
theorem tm_B_ec {T : tm_T} {r f e : Nat} (h : tm_B T) : tm_B (tm_ec T r f e) := tm_B_emp h
theorem tm_B_erw {n r : Nat} {T : tm_T} (h : tm_B T) : tm_B (tm_erw n r T) := by
  induction n generalizing r T with
  | zero => exact h
  | succ n ih => exact ih (tm_B_ec h)
theorem tm_B_er {T : tm_T} {f e : Nat} (h : tm_B T) : tm_B (tm_er T f e) := tm_B_erw h
theorem tm_B_cc {T : tm_T} {l f e : Nat} (h : tm_B T) : tm_B (tm_cc T l f e) := tm_B_put h (tm_c1 h _) (tm_b1 h _) (tm_b2 h _)
theorem tm_B_cd {l k n c : Nat} {T : tm_T} (h : tm_B T) : tm_B (tm_cd l k n c T) := by
  induction n generalizing c T with
  | zero => exact h
  | succ n ih => exact ih (tm_B_cc h)
theorem tm_B_cu {l k n c : Nat} {T : tm_T} (h : tm_B T) : tm_B (tm_cu l k n c T) := by
  induction n generalizing c T with
  | zero => exact h
  | succ n ih => exact ih (tm_B_cc h)
theorem tm_B_tuL {b n r : Nat} {T : tm_T} (h : tm_B T) : tm_B (tm_tuL b n r T) := by
  induction n generalizing r T with
  | zero => exact h
  | succ n ih => exact ih (tm_B_up h (Nat.zero_le _) (tm_b3 h _))
theorem tm_B_tdL {b n r : Nat} {T : tm_T} (h : tm_B T) : tm_B (tm_tdL b n r T) := by
  induction n generalizing r T with
  | zero => exact h
  | succ n ih => exact ih (tm_B_up h (Nat.zero_le _) (tm_b3 h _))
theorem tm_B_tu {T : tm_T} {f to : Nat} (h : tm_B T) : tm_B (tm_tu T f to) := tm_B_ec (tm_B_up (tm_B_tuL h) (Nat.zero_le _) (tm_b3 h _))
theorem tm_B_td {T : tm_T} {f to : Nat} (h : tm_B T) : tm_B (tm_td T f to) := tm_B_ec (tm_B_up (tm_B_tdL h) (Nat.zero_le _) (tm_b3 h _))
theorem tm_B_kpL {l b n c : Nat} {T : tm_T} (h : tm_B T) : tm_B (tm_kpL l b n c T) := by
  induction n generalizing c T with
  | zero => exact h
  | succ n ih => exact ih (tm_B_up h (Nat.zero_le _) (tm_b1 h _))
theorem tm_kpc {n : Nat} : (if 8 ≤ n then 8 else n + 1) ≤ 8 := by
  split <;> omega
theorem tm_B_kp {T : tm_T} (h : tm_B T) : tm_B (tm_kp T) :=
  tm_B_up (tm_B_up (tm_B_kpL h) (Nat.zero_le _) (show (T 26 0 + 1) % 8 ≤ 7 by omega)) (Nat.zero_le _) (show _ ≤ 8 from tm_kpc)
theorem tm_B_su1 {t : Nat} {T : tm_T} (h : tm_B T) : tm_B (tm_su1 t T) := by
  unfold tm_su1
  split
  · exact tm_B_tu (tm_B_kp h)
  · exact tm_B_tu h
theorem tm_B_su {t n : Nat} {T : tm_T} (h : tm_B T) : tm_B (tm_su t n T) := by
  induction n generalizing T with
  | zero => exact h
  | succ n ih => exact ih (tm_B_su1 h)
theorem tm_B_sd {n : Nat} {T : tm_T} (h : tm_B T) : tm_B (tm_sd n T) := by
  induction n generalizing T with
  | zero => exact h
  | succ n ih => exact ih (tm_B_td h)
theorem tm_B_Sb {T : tm_T} (h : tm_B T) : tm_Sb T := ⟨tm_b12 h 0, fun i => tm_b3 h i⟩
theorem tm_B_Cb {T : tm_T} (h : tm_B T) : tm_Cb T := fun i => ⟨Nat.lt_of_le_of_lt (tm_b1 h i) (by decide), Nat.lt_of_le_of_lt (tm_b2 h i) (by decide)⟩
/-- bounds, and the regions in order -/
def tm_I (T : tm_T) : Prop := tm_B T ∧ T 8 0 ≤ T 9 0 ∧ T 18 0 ≤ T 19 0
theorem tm_I_of {T T' : tm_T} (h : tm_I T) (hb : tm_B T') (h8 : T' 8 0 = T 8 0) (h9 : T' 9 0 = T 9 0) (h18 : T' 18 0 = T 18 0) (h19 : T' 19 0 = T 19 0) : tm_I T' :=
  ⟨hb, by rw [h8, h9]; exact h.2.1, by rw [h18, h19]; exact h.2.2⟩
theorem tm_I_su1 {t : Nat} {T : tm_T} (h : tm_I T) : tm_I (tm_su1 t T) :=
  tm_I_of h (tm_B_su1 h.1) (tm_su1_o (by decide) (by decide) (by decide) (by decide) (by decide) (by decide)) (tm_su1_o (by decide) (by decide) (by decide) (by decide) (by decide) (by decide)) (tm_su1_o (by decide) (by decide) (by decide) (by decide) (by decide) (by decide)) (tm_su1_o (by decide) (by decide) (by decide) (by decide) (by decide) (by decide))
theorem tm_I_td {T : tm_T} {f to : Nat} (h : tm_I T) : tm_I (tm_td T f to) :=
  tm_I_of h (tm_B_td h.1) (tm_td_o (by decide) (by decide) (by decide)) (tm_td_o (by decide) (by decide) (by decide)) (tm_td_o (by decide) (by decide) (by decide)) (tm_td_o (by decide) (by decide) (by decide))
/-! the rows that are kept -/
section
variable {at_ kc kn : Int32} {a1 a2 a3 a4 a5 a6 a7 a8 a9 a10 a11 a12 a13 a14 a15 a16 a17 a18 a19 a20 a21 a22 a23 a24 : Nat → Int32} {t : Nat} {T O : tm_T}
theorem tm_w24 {i : Int32} {j : Nat} {x : Nat → Int32} {y : Int32} {v : Nat} (h : tm_R (at_, kc, kn, a1, a2, a3, a4, a5, a6, a7, a8, a9, a10, a11, a12, a13, a14, a15, a16, a17, a18, a19, a20, a21, a22, a23, a24) 0 T O) (hi : i = nI j) (hj : j < 96) (e : x = upd a24 i.toNatClampNeg y) (hy : y = nI v) : tm_R (at_, kc, kn, a1, a2, a3, a4, a5, a6, a7, a8, a9, a10, a11, a12, a13, a14, a15, a16, a17, a18, a19, a20, a21, a22, a23, x) 0 (tm_up T 24 j v) O := by
  subst e hy hi
  rw [nI_clamp (show j < 2 ^ 31 by omega)]
  obtain ⟨g1, g2, g3, g4⟩ := h
  refine (And.intro (g1) (And.intro (g2) (And.intro (?_) (?_))))
  · obtain ⟨h1, h2, h3, h4, h5, h6, h7, h8, h9, h10, h11, h12, h13, h14, h15, h16, h17, h18, h19, h20, hn, hk⟩ := g3
    obtain ⟨k1, k2, k3⟩ := hk rfl
    refine (And.intro (h1) (And.intro (h2) (And.intro (h3) (And.intro (h4) (And.intro (h5) (And.intro (h6) (And.intro (h7) (And.intro (h8) (And.intro (h9) (And.intro (h10) (And.intro (h11) (And.intro (h12) (And.intro (h13) (And.intro (h14) (And.intro (h15) (And.intro (h16) (And.intro (h17) (And.intro (h18) (And.intro (h19) (And.intro (h20) (And.intro (hn) (fun _ => (And.intro (k1) (And.intro (k2) (fun i hi => ?_)))))))))))))))))))))))))
    by_cases z : i = j
    · rw [z, pk_us, tm_upS]
    · rw [pk_un z, tm_upI T z]
      exact k3 i hi
  · obtain ⟨h1, h2, h3, h4, h5, h6, h7, h8, h9, h10, h11, h12, h13, h14, h15, h16, h17, h18, h19, h20, hn, hk⟩ := g4
    exact (And.intro (h1) (And.intro (h2) (And.intro (h3) (And.intro (h4) (And.intro (h5) (And.intro (h6) (And.intro (h7) (And.intro (h8) (And.intro (h9) (And.intro (h10) (And.intro (h11) (And.intro (h12) (And.intro (h13) (And.intro (h14) (And.intro (h15) (And.intro (h16) (And.intro (h17) (And.intro (h18) (And.intro (h19) (And.intro (h20) (And.intro (hn) (fun z => absurd z (by decide)))))))))))))))))))))))
theorem tm_wkc {y : Int32} {v : Nat} (h : tm_R (at_, kc, kn, a1, a2, a3, a4, a5, a6, a7, a8, a9, a10, a11, a12, a13, a14, a15, a16, a17, a18, a19, a20, a21, a22, a23, a24) 0 T O) (hy : y = nI v) : tm_R (at_, y, kn, a1, a2, a3, a4, a5, a6, a7, a8, a9, a10, a11, a12, a13, a14, a15, a16, a17, a18, a19, a20, a21, a22, a23, a24) 0 (tm_up T 25 0 v) O := by
  subst hy
  obtain ⟨g1, g2, g3, g4⟩ := h
  refine (And.intro (g1) (And.intro (g2) (And.intro (?_) (?_))))
  · obtain ⟨h1, h2, h3, h4, h5, h6, h7, h8, h9, h10, h11, h12, h13, h14, h15, h16, h17, h18, h19, h20, hn, hk⟩ := g3
    obtain ⟨k1, k2, k3⟩ := hk rfl
    exact (And.intro (h1) (And.intro (h2) (And.intro (h3) (And.intro (h4) (And.intro (h5) (And.intro (h6) (And.intro (h7) (And.intro (h8) (And.intro (h9) (And.intro (h10) (And.intro (h11) (And.intro (h12) (And.intro (h13) (And.intro (h14) (And.intro (h15) (And.intro (h16) (And.intro (h17) (And.intro (h18) (And.intro (h19) (And.intro (h20) (And.intro (hn) (fun _ => (And.intro (rfl) (And.intro (k2) (k3)))))))))))))))))))))))))
  · obtain ⟨h1, h2, h3, h4, h5, h6, h7, h8, h9, h10, h11, h12, h13, h14, h15, h16, h17, h18, h19, h20, hn, hk⟩ := g4
    exact (And.intro (h1) (And.intro (h2) (And.intro (h3) (And.intro (h4) (And.intro (h5) (And.intro (h6) (And.intro (h7) (And.intro (h8) (And.intro (h9) (And.intro (h10) (And.intro (h11) (And.intro (h12) (And.intro (h13) (And.intro (h14) (And.intro (h15) (And.intro (h16) (And.intro (h17) (And.intro (h18) (And.intro (h19) (And.intro (h20) (And.intro (hn) (fun z => absurd z (by decide)))))))))))))))))))))))
theorem tm_wkn {y : Int32} {v : Nat} (h : tm_R (at_, kc, kn, a1, a2, a3, a4, a5, a6, a7, a8, a9, a10, a11, a12, a13, a14, a15, a16, a17, a18, a19, a20, a21, a22, a23, a24) 0 T O) (hy : y = nI v) : tm_R (at_, kc, y, a1, a2, a3, a4, a5, a6, a7, a8, a9, a10, a11, a12, a13, a14, a15, a16, a17, a18, a19, a20, a21, a22, a23, a24) 0 (tm_up T 26 0 v) O := by
  subst hy
  obtain ⟨g1, g2, g3, g4⟩ := h
  refine (And.intro (g1) (And.intro (g2) (And.intro (?_) (?_))))
  · obtain ⟨h1, h2, h3, h4, h5, h6, h7, h8, h9, h10, h11, h12, h13, h14, h15, h16, h17, h18, h19, h20, hn, hk⟩ := g3
    obtain ⟨k1, k2, k3⟩ := hk rfl
    exact (And.intro (h1) (And.intro (h2) (And.intro (h3) (And.intro (h4) (And.intro (h5) (And.intro (h6) (And.intro (h7) (And.intro (h8) (And.intro (h9) (And.intro (h10) (And.intro (h11) (And.intro (h12) (And.intro (h13) (And.intro (h14) (And.intro (h15) (And.intro (h16) (And.intro (h17) (And.intro (h18) (And.intro (h19) (And.intro (h20) (And.intro (hn) (fun _ => (And.intro (k1) (And.intro (rfl) (k3)))))))))))))))))))))))))
  · obtain ⟨h1, h2, h3, h4, h5, h6, h7, h8, h9, h10, h11, h12, h13, h14, h15, h16, h17, h18, h19, h20, hn, hk⟩ := g4
    exact (And.intro (h1) (And.intro (h2) (And.intro (h3) (And.intro (h4) (And.intro (h5) (And.intro (h6) (And.intro (h7) (And.intro (h8) (And.intro (h9) (And.intro (h10) (And.intro (h11) (And.intro (h12) (And.intro (h13) (And.intro (h14) (And.intro (h15) (And.intro (h16) (And.intro (h17) (And.intro (h18) (And.intro (h19) (And.intro (h20) (And.intro (hn) (fun z => absurd z (by decide)))))))))))))))))))))))
end
theorem tm_keepL {post : St1 → Prop} {l k : Nat} {O : tm_T} (hl : l + 12 ≤ 144) (hk : k < 8) : ∀ (n c : Nat) (T : tm_T) (at_ kc kn a1 a2 a3 a4 a5 a6 a7 a8 a9 a10 a11 a12 a13 a14 a15 a16 a17 a18 a19 a20 a21 a22 a23 a24), c + n = 12 → tm_Cb T → T 26 0 = k → T 25 0 ≤ 8 → tm_R (at_, kc, kn, a1, a2, a3, a4, a5, a6, a7, a8, a9, a10, a11, a12, a13, a14, a15, a16, a17, a18, a19, a20, a21, a22, a23, a24) 0 T O → (∀ u', tm_R u' 0 (tm_up (tm_up (tm_kpL l (k * 12) n c T) 26 0 ((k + 1) % 8)) 25 0 (if 8 ≤ T 25 0 then 8 else T 25 0 + 1)) O → post u') → wX_keepRow_8 post (nI (0 * 144 + l)) at_ kc kn (n + 1) (nI c) a1 a2 a3 a4 a5 a6 a7 a8 a9 a10 a11 a12 a13 a14 a15 a16 a17 a18 a19 a20 a21 a22 a23 a24 := by
  intro n
  induction n with
  | zero =>
    intro c T at_ kc kn a1 a2 a3 a4 a5 a6 a7 a8 a9 a10 a11 a12 a13 a14 a15 a16 a17 a18 a19 a20 a21 a22 a23 a24 hc hb h26 h25 h hp
    obtain ⟨k1, k2, k3⟩ := tm_sk h.2.2.1 rfl
    have e8 : (kn + 1) - (kn + 1) / 8 * 8 = nI ((k + 1) % 8) := by
      rw [k2, h26, nI_1]
      exact pk_rem (d := 8) (by omega) (by decide) (by decide)
    refine pk_le 12 c (fun _ => (And.intro (by decide) (nm_r e8 ?_))) (fun z => absurd z (by omega))
    refine pk_le 8 (T 25 0) (fun z => hp _ ?_) (fun z => nm_e (hp _ ?_)) rfl k1
    · rw [if_pos z]
      exact tm_wkc (tm_wkn h rfl) rfl
    · rw [if_neg (by omega)]
      exact tm_wkc (tm_wkn h rfl) (by rw [k1]; exact nI_1 _)
  | succ n ih =>
    intro c T at_ kc kn a1 a2 a3 a4 a5 a6 a7 a8 a9 a10 a11 a12 a13 a14 a15 a16 a17 a18 a19 a20 a21 a22 a23 a24 hc hb h26 h25 h hp
    obtain ⟨k1, k2, k3⟩ := tm_sk h.2.2.1 rfl
    have ix := tm_ix3 0 l c
    have iy : kn * 12 + nI c = nI (k * 12 + c) := by
      rw [k2, h26, show (12 : Int32) = nI 12 from rfl, pk_mul, nI_add]
    refine pk_le 12 c (fun z => absurd z (by omega)) (fun _ => (And.intro (pk_in _ _ (by omega) ix) (And.intro (pk_in _ _ (by omega) iy) (fun b e => nm_r (nI_1 c) ?_))))
    exact ih (c + 1) (tm_up T 24 (k * 12 + c) (T 1 (l + c))) _ _ _ _ _ _ _ _ _ _ _ _ _ _ _ _ _ _ _ _ _ _ _ _ _ _ _ (by omega) (fun i => hb i) h26 h25 (tm_w24 h iy (by omega) e (tm_nc' (hb _).1 (tm_r1 h ix (by omega)))) hp
theorem tm_keepRow {post : St1 → Prop} {u : St1} {T O : tm_T} (h : tm_R u 0 T O) (hb : tm_B T) (hp : ∀ u', tm_R u' 0 (tm_kp T) O → post u') : wpX_keepRow post u := by
  obtain ⟨at_, kc, kn, a1, a2, a3, a4, a5, a6, a7, a8, a9, a10, a11, a12, a13, a14, a15, a16, a17, a18, a19, a20, a21, a22, a23, a24⟩ := u
  have h26 := tm_b26 hb 0
  unfold wpX_keepRow
  refine tm_lineAt (r := 0) h (tm_B_Sb hb) (by decide) ?_
  exact ⟨13, tm_keepL (tm_ln_le (tm_B_Sb hb)) (by omega) 12 0 T at_ kc kn a1 a2 a3 a4 a5 a6 a7 a8 a9 a10 a11 a12 a13 a14 a15 a16 a17 a18 a19 a20 a21 a22 a23 a24 (by decide) (tm_B_Cb hb) rfl (tm_b25 hb 0) h hp⟩
theorem tm_scrollU1 {post : St1 → Prop} {J : Int32 → Int32 → Int32 → Int32 → (Nat → Int32) → (Nat → Int32) → (Nat → Int32) → (Nat → Int32) → (Nat → Int32) → (Nat → Int32) → (Nat → Int32) → (Nat → Int32) → (Nat → Int32) → (Nat → Int32) → (Nat → Int32) → (Nat → Int32) → (Nat → Int32) → (Nat → Int32) → (Nat → Int32) → (Nat → Int32) → (Nat → Int32) → (Nat → Int32) → (Nat → Int32) → (Nat → Int32) → (Nat → Int32) → (Nat → Int32) → (Nat → Int32) → (Nat → Int32) → Prop} {x : Int32} {t k : Nat} {T O : tm_T} {at_ kc kn a1 a2 a3 a4 a5 a6 a7 a8 a9 a10 a11 a12 a13 a14 a15 a16 a17 a18 a19 a20 a21 a22 a23 a24} (h : tm_R (at_, kc, kn, a1, a2, a3, a4, a5, a6, a7, a8, a9, a10, a11, a12, a13, a14, a15, a16, a17, a18, a19, a20, a21, a22, a23, a24) t T O) (hI : tm_I T) (hp : ∀ at_ kc kn a1 a2 a3 a4 a5 a6 a7 a8 a9 a10 a11 a12 a13 a14 a15 a16 a17 a18 a19 a20 a21 a22 a23 a24, tm_R (at_, kc, kn, a1, a2, a3, a4, a5, a6, a7, a8, a9, a10, a11, a12, a13, a14, a15, a16, a17, a18, a19, a20, a21, a22, a23, a24) t (tm_tu T (T 8 0) (T 9 0)) O → J (nI (k + 1)) at_ kc kn a1 a2 a3 a4 a5 a6 a7 a8 a9 a10 a11 a12 a13 a14 a15 a16 a17 a18 a19 a20 a21 a22 a23 a24) : wX_scrollUp_42 post J x (nI k) at_ kc kn a1 a2 a3 a4 a5 a6 a7 a8 a9 a10 a11 a12 a13 a14 a15 a16 a17 a18 a19 a20 a21 a22 a23 a24 := by
  have h9 := tm_b9 hI.1 0
  have key : wpX_turnUp (fun u => match u with | (at_, kc, kn, a1, a2, a3, a4, a5, a6, a7, a8, a9, a10, a11, a12, a13, a14, a15, a16, a17, a18, a19, a20, a21, a22, a23, a24) => ∀ y : Int32, y = nI k + 1 → J y at_ kc kn a1 a2 a3 a4 a5 a6 a7 a8 a9 a10 a11 a12 a13 a14 a15 a16 a17 a18 a19 a20 a21 a22 a23 a24) (at_, kc, kn, a1, a2, a3, a4, a5, a6, a7, a8, a9, a10, a11, a12, a13, a14, a15, a16, a17, a18, a19, a20, a21, a22, a23, a24) (nI (T 8 0)) (nI (T 9 0)) := by
    refine tm_turnUp h (tm_B_Sb hI.1) hI.2.1 (by omega) ?_
    intro u' h'
    obtain ⟨at_, kc, kn, a1, a2, a3, a4, a5, a6, a7, a8, a9, a10, a11, a12, a13, a14, a15, a16, a17, a18, a19, a20, a21, a22, a23, a24⟩ := u'
    exact nm_r (nI_1 k) (hp at_ kc kn a1 a2 a3 a4 a5 a6 a7 a8 a9 a10 a11 a12 a13 a14 a15 a16 a17 a18 a19 a20 a21 a22 a23 a24 h')
  refine (And.intro (tm_in h) (And.intro (tm_in h) (?_)))
  rw [tm_r8 h, tm_r9 h]
  exact key
theorem tm_scrollUL {post : St1 → Prop} {t N : Nat} {O : tm_T} (hN : N < 2 ^ 31) : ∀ (n k : Nat) (T : tm_T) (at_ kc kn a1 a2 a3 a4 a5 a6 a7 a8 a9 a10 a11 a12 a13 a14 a15 a16 a17 a18 a19 a20 a21 a22 a23 a24), k + n = N → tm_I T → tm_R (at_, kc, kn, a1, a2, a3, a4, a5, a6, a7, a8, a9, a10, a11, a12, a13, a14, a15, a16, a17, a18, a19, a20, a21, a22, a23, a24) t T O → (∀ u', tm_R u' t (tm_su t n T) O → post u') → wX_scrollUp_2 post (nI N) (n + 1) (nI k) at_ kc kn a1 a2 a3 a4 a5 a6 a7 a8 a9 a10 a11 a12 a13 a14 a15 a16 a17 a18 a19 a20 a21 a22 a23 a24 := by
  intro n
  induction n with
  | zero =>
    intro k T at_ kc kn a1 a2 a3 a4 a5 a6 a7 a8 a9 a10 a11 a12 a13 a14 a15 a16 a17 a18 a19 a20 a21 a22 a23 a24 hk hI h hp
    exact pk_le N k (fun _ => hp _ h) (fun z => absurd z (by omega))
  | succ n ih =>
    intro k T at_ kc kn a1 a2 a3 a4 a5 a6 a7 a8 a9 a10 a11 a12 a13 a14 a15 a16 a17 a18 a19 a20 a21 a22 a23 a24 hk hI h hp
    have ht := tm_lt h
    have h12 := tm_b12 hI.1 0
    have h8 := tm_b8 hI.1 0
    have go : (¬ (t = 0 ∧ T 12 0 = 0 ∧ T 8 0 = 0)) → wX_scrollUp_42 post (wX_scrollUp_2 post (nI N) (n + 1)) (nI N) (nI k) at_ kc kn a1 a2 a3 a4 a5 a6 a7 a8 a9 a10 a11 a12 a13 a14 a15 a16 a17 a18 a19 a20 a21 a22 a23 a24 := by
      intro z
      refine tm_scrollU1 h hI ?_
      intro at_ kc kn a1 a2 a3 a4 a5 a6 a7 a8 a9 a10 a11 a12 a13 a14 a15 a16 a17 a18 a19 a20 a21 a22 a23 a24 h'
      have e : tm_su1 t T = tm_tu T (T 8 0) (T 9 0) := if_neg z
      exact ih (k + 1) (tm_su1 t T) at_ kc kn a1 a2 a3 a4 a5 a6 a7 a8 a9 a10 a11 a12 a13 a14 a15 a16 a17 a18 a19 a20 a21 a22 a23 a24 (by omega) (tm_I_su1 hI) (e ▸ h') hp
    refine pk_le N k (fun z => absurd z (by omega)) (fun _ => pk_eq t 0 (fun z0 => (And.intro (tm_in h) (pk_eq (T 12 0) 0 (fun z1 => (And.intro (tm_in h) (pk_eq (T 8 0) 0 (fun z2 => ?_) (fun z => go (fun y => z y.2.2)) (tm_r8 h) rfl))) (fun z => go (fun y => z y.2.1)) (tm_r12 h) rfl))) (fun z => go (fun y => z y.1)) (tm_at h) rfl)
    subst z0
    refine tm_keepRow h hI.1 ?_
    intro u' h'
    obtain ⟨at_, kc, kn, a1, a2, a3, a4, a5, a6, a7, a8, a9, a10, a11, a12, a13, a14, a15, a16, a17, a18, a19, a20, a21, a22, a23, a24⟩ := u'
    have e : tm_su1 0 T = tm_tu (tm_kp T) (T 8 0) (T 9 0) := if_pos ⟨rfl, z1, z2⟩
    have hI' : tm_I (tm_kp T) := tm_I_of hI (tm_B_kp hI.1) (tm_kp_o (by decide) (by decide) (by decide)) (tm_kp_o (by decide) (by decide) (by decide)) (tm_kp_o (by decide) (by decide) (by decide)) (tm_kp_o (by decide) (by decide) (by decide))
    refine tm_scrollU1 h' hI' ?_
    intro at_ kc kn a1 a2 a3 a4 a5 a6 a7 a8 a9 a10 a11 a12 a13 a14 a15 a16 a17 a18 a19 a20 a21 a22 a23 a24 h''
    have e8 : tm_kp T 8 0 = T 8 0 := tm_kp_o (by decide) (by decide) (by decide)
    have e9 : tm_kp T 9 0 = T 9 0 := tm_kp_o (by decide) (by decide) (by decide)
    rw [e8, e9, ← e] at h''
    exact ih (k + 1) (tm_su1 0 T) at_ kc kn a1 a2 a3 a4 a5 a6 a7 a8 a9 a10 a11 a12 a13 a14 a15 a16 a17 a18 a19 a20 a21 a22 a23 a24 (by omega) (tm_I_su1 hI) h'' hp
theorem tm_scrollUp {post : St1 → Prop} {u : St1} {t n : Nat} {T O : tm_T} (h : tm_R u t T O) (hI : tm_I T) (hn : n < 2 ^ 31) (hp : ∀ u', tm_R u' t (tm_su t n T) O → post u') : wpX_scrollUp post u (nI n) := by
  obtain ⟨at_, kc, kn, a1, a2, a3, a4, a5, a6, a7, a8, a9, a10, a11, a12, a13, a14, a15, a16, a17, a18, a19, a20, a21, a22, a23, a24⟩ := u
  exact ⟨n + 1, tm_scrollUL hn n 0 T at_ kc kn a1 a2 a3 a4 a5 a6 a7 a8 a9 a10 a11 a12 a13 a14 a15 a16 a17 a18 a19 a20 a21 a22 a23 a24 (by omega) hI h hp⟩
theorem tm_scrollDL {post : St1 → Prop} {t N : Nat} {O : tm_T} (hN : N < 2 ^ 31) : ∀ (n k : Nat) (T : tm_T) (at_ kc kn a1 a2 a3 a4 a5 a6 a7 a8 a9 a10 a11 a12 a13 a14 a15 a16 a17 a18 a19 a20 a21 a22 a23 a24), k + n = N → tm_I T → tm_R (at_, kc, kn, a1, a2, a3, a4, a5, a6, a7, a8, a9, a10, a11, a12, a13, a14, a15, a16, a17, a18, a19, a20, a21, a22, a23, a24) t T O → (∀ u', tm_R u' t (tm_sd n T) O → post u') → wX_scrollDown_2 post (nI N) (n + 1) (nI k) at_ kc kn a1 a2 a3 a4 a5 a6 a7 a8 a9 a10 a11 a12 a13 a14 a15 a16 a17 a18 a19 a20 a21 a22 a23 a24 := by
  intro n
  induction n with
  | zero =>
    intro k T at_ kc kn a1 a2 a3 a4 a5 a6 a7 a8 a9 a10 a11 a12 a13 a14 a15 a16 a17 a18 a19 a20 a21 a22 a23 a24 hk hI h hp
    exact pk_le N k (fun _ => hp _ h) (fun z => absurd z (by omega))
  | succ n ih =>
    intro k T at_ kc kn a1 a2 a3 a4 a5 a6 a7 a8 a9 a10 a11 a12 a13 a14 a15 a16 a17 a18 a19 a20 a21 a22 a23 a24 hk hI h hp
    have h9 := tm_b9 hI.1 0
    refine pk_le N k (fun z => absurd z (by omega)) (fun _ => (And.intro (tm_in h) (And.intro (tm_in h) (?_))))
    rw [tm_r8 h, tm_r9 h]
    refine tm_turnDown h (tm_B_Sb hI.1) hI.2.1 (by omega) ?_
    intro u' h'
    obtain ⟨at_, kc, kn, a1, a2, a3, a4, a5, a6, a7, a8, a9, a10, a11, a12, a13, a14, a15, a16, a17, a18, a19, a20, a21, a22, a23, a24⟩ := u'
    exact nm_r (nI_1 k) (ih (k + 1) _ at_ kc kn a1 a2 a3 a4 a5 a6 a7 a8 a9 a10 a11 a12 a13 a14 a15 a16 a17 a18 a19 a20 a21 a22 a23 a24 (by omega) (tm_I_td hI) h' hp)
theorem tm_scrollDown {post : St1 → Prop} {u : St1} {t n : Nat} {T O : tm_T} (h : tm_R u t T O) (hI : tm_I T) (hn : n < 2 ^ 31) (hp : ∀ u', tm_R u' t (tm_sd n T) O → post u') : wpX_scrollDown post u (nI n) := by
  obtain ⟨at_, kc, kn, a1, a2, a3, a4, a5, a6, a7, a8, a9, a10, a11, a12, a13, a14, a15, a16, a17, a18, a19, a20, a21, a22, a23, a24⟩ := u
  exact ⟨n + 1, tm_scrollDL hn n 0 T at_ kc kn a1 a2 a3 a4 a5 a6 a7 a8 a9 a10 a11 a12 a13 a14 a15 a16 a17 a18 a19 a20 a21 a22 a23 a24 (by omega) hI h hp⟩
end
section
/-! the whole terminal -/
def tm_mt (T : tm_T) (r c : Nat) : tm_T := tm_up (tm_up T 4 0 r) 5 0 c
def tm_wr (T : tm_T) : tm_T := tm_up (tm_up T 8 0 0) 9 0 5
def tm_sl (k : Nat) : Nat → Nat → tm_T → tm_T
  | 0, _, T => T
  | n + 1, r, T => tm_sl k n (r + 1) (tm_up T 3 (k * 6 + r) (k * 6 + r))
def tm_ca1 (T : tm_T) : tm_T := tm_er (tm_up (tm_sl 1 6 0 (tm_sl 0 6 0 T)) 12 0 1) 0 6
def tm_ca2 (T : tm_T) : tm_T := tm_wr (tm_mt (tm_er (tm_up (tm_ca1 T) 12 0 0) 0 6) 0 0)
def tm_ca3 (T : tm_T) : tm_T := tm_up (tm_up (tm_up (tm_up (tm_up (tm_up (tm_up (tm_up (tm_ca2 T) 6 0 0) 7 0 0) 10 0 0) 11 0 1) 13 0 0) 14 0 0) 15 0 0) 20 0 0
def tm_ca (t : Nat) (T : tm_T) : tm_T := if t = 0 then tm_up (tm_up (tm_ca3 T) 25 0 0) 26 0 0 else tm_ca3 T
theorem tm_sl_o {k n r : Nat} {T : tm_T} {g j : Nat} (h : g ≠ 3) : tm_sl k n r T g j = T g j := by
  induction n generalizing r T with
  | zero => rfl
  | succ n ih => exact ih.trans (tm_upF _ h)
theorem tm_sl_b {k n r : Nat} {T : tm_T} (hk : k ≤ 1) (hr : r + n ≤ 6) (h : ∀ i, T 3 i ≤ 11) : ∀ i, tm_sl k n r T 3 i ≤ 11 := by
  induction n generalizing r T with
  | zero => exact h
  | succ n ih =>
    refine ih (by omega) (fun i => ?_)
    by_cases z : i = k * 6 + r
    · rw [z, tm_upS]
      omega
    · rw [tm_upI T z]
      exact h i
theorem tm_moveTo {post : St1 → Prop} {u : St1} {t r c : Nat} {T O : tm_T} (h : tm_R u t T O) (hr : r < 128) (hc : c < 128) (hp : ∀ u', tm_R u' t (tm_mt T r c) O → post u') : wpX_moveTo post u (nI r) (nI c) := by
  obtain ⟨at_, kc, kn, a1, a2, a3, a4, a5, a6, a7, a8, a9, a10, a11, a12, a13, a14, a15, a16, a17, a18, a19, a20, a21, a22, a23, a24⟩ := u
  exact (And.intro (tm_in h) (fun b4 e4 => (And.intro (tm_in h) (fun b5 e5 => hp _ (tm_w5 (tm_w4 h e4 (tm_nb r hr)) e5 (tm_nb c hc))))))
theorem tm_wholeRegion {post : St1 → Prop} {u : St1} {t : Nat} {T O : tm_T} (h : tm_R u t T O) (hp : ∀ u', tm_R u' t (tm_wr T) O → post u') : wpX_wholeRegion post u := by
  obtain ⟨at_, kc, kn, a1, a2, a3, a4, a5, a6, a7, a8, a9, a10, a11, a12, a13, a14, a15, a16, a17, a18, a19, a20, a21, a22, a23, a24⟩ := u
  exact (And.intro (tm_in h) (fun b4 e4 => (And.intro (tm_in h) (fun b5 e5 => hp _ (tm_w9 (v := 5) (tm_w8 (v := 0) h e4 rfl) e5 rfl)))))
theorem tm_clear9 {post : St1 → Prop} {J : Int32 → (Nat → Int32) → (Nat → Int32) → (Nat → Int32) → (Nat → Int32) → (Nat → Int32) → (Nat → Int32) → (Nat → Int32) → (Nat → Int32) → (Nat → Int32) → (Nat → Int32) → (Nat → Int32) → (Nat → Int32) → (Nat → Int32) → (Nat → Int32) → (Nat → Int32) → (Nat → Int32) → (Nat → Int32) → (Nat → Int32) → (Nat → Int32) → (Nat → Int32) → (Nat → Int32) → (Nat → Int32) → (Nat → Int32) → (Nat → Int32) → Prop} {t k : Nat} {O : tm_T} {at_ kc kn : Int32} (hk : k < 2) : ∀ (n r : Nat) (T : tm_T) (a1 a2 a3 a4 a5 a6 a7 a8 a9 a10 a11 a12 a13 a14 a15 a16 a17 a18 a19 a20 a21 a22 a23 a24), r + n = 6 → tm_R (at_, kc, kn, a1, a2, a3, a4, a5, a6, a7, a8, a9, a10, a11, a12, a13, a14, a15, a16, a17, a18, a19, a20, a21, a22, a23, a24) t T O → (∀ a1 a2 a3 a4 a5 a6 a7 a8 a9 a10 a11 a12 a13 a14 a15 a16 a17 a18 a19 a20 a21 a22 a23 a24, tm_R (at_, kc, kn, a1, a2, a3, a4, a5, a6, a7, a8, a9, a10, a11, a12, a13, a14, a15, a16, a17, a18, a19, a20, a21, a22, a23, a24) t (tm_sl k n r T) O → J (nI (k + 1)) a1 a2 a3 a4 a5 a6 a7 a8 a9 a10 a11 a12 a13 a14 a15 a16 a17 a18 a19 a20 a21 a22 a23 a24) → wX_clearAll_9 post J (nI k) at_ kc kn (n + 1) (nI r) a1 a2 a3 a4 a5 a6 a7 a8 a9 a10 a11 a12 a13 a14 a15 a16 a17 a18 a19 a20 a21 a22 a23 a24 := by
  intro n
  induction n with
  | zero =>
    intro r T a1 a2 a3 a4 a5 a6 a7 a8 a9 a10 a11 a12 a13 a14 a15 a16 a17 a18 a19 a20 a21 a22 a23 a24 hr h hp
    exact pk_le 6 r (fun _ => nm_r (nI_1 k) (hp a1 a2 a3 a4 a5 a6 a7 a8 a9 a10 a11 a12 a13 a14 a15 a16 a17 a18 a19 a20 a21 a22 a23 a24 h)) (fun z => absurd z (by omega))
  | succ n ih =>
    intro r T a1 a2 a3 a4 a5 a6 a7 a8 a9 a10 a11 a12 a13 a14 a15 a16 a17 a18 a19 a20 a21 a22 a23 a24 hr h hp
    have ht := tm_lt h
    have ix : (at_ * 2 + nI k) * 6 + nI r = nI (t * 12 + (k * 6 + r)) := by
      rw [tm_at h]
      exact tm_ix1 _ _ _
    have iy : nI k * 6 + nI r = nI (k * 6 + r) := by
      rw [show (6 : Int32) = nI 6 from rfl, pk_mul, nI_add]
    refine pk_le 6 r (fun z => absurd z (by omega)) (fun _ => (And.intro (pk_in _ _ (by omega) ix) (fun b3 e3 => nm_r (nI_1 r) ?_)))
    exact ih (r + 1) _ _ _ _ _ _ _ _ _ _ _ _ _ _ _ _ _ _ _ _ _ _ _ _ _ (by omega) (tm_w3 h ix (by omega) e3 (tm_nb' (by omega) iy)) hp
theorem tm_clearR {post : St1 → Prop} {t n : Nat} {T O : tm_T} {at_ kc kn a1 a2 a3 a4 a5 a6 a7 a8 a9 a10 a11 a12 a13 a14 a15 a16 a17 a18 a19 a20 a21 a22 a23 a24} (h : tm_R (at_, kc, kn, a1, a2, a3, a4, a5, a6, a7, a8, a9, a10, a11, a12, a13, a14, a15, a16, a17, a18, a19, a20, a21, a22, a23, a24) t (tm_sl 1 6 0 (tm_sl 0 6 0 T)) O) (h3 : ∀ i, T 3 i ≤ 11) (hp : ∀ u', tm_R u' t (tm_ca t T) O → post u') : wX_clearAll_2 post at_ kc kn (n + 1) (nI 2) a1 a2 a3 a4 a5 a6 a7 a8 a9 a10 a11 a12 a13 a14 a15 a16 a17 a18 a19 a20 a21 a22 a23 a24 := by
  have hb1 : tm_Sb (tm_up (tm_sl 1 6 0 (tm_sl 0 6 0 T)) 12 0 1) := ⟨Nat.le_refl 1, tm_sl_b (by decide) (by decide) (tm_sl_b (by decide) (by decide) h3)⟩
  have hb2 : tm_Sb (tm_up (tm_ca1 T) 12 0 0) := ⟨Nat.zero_le 1, fun i => (tm_Sb_er hb1).2 i⟩
  refine pk_le 2 2 (fun _ => (And.intro (tm_in h) (fun b e => ?_))) (fun z => absurd z (by omega))
  refine tm_emptyRows (f := 0) (e := 6) (tm_w12 (v := 1) h e rfl) hb1 (by decide) (by decide) ?_
  intro u1 h1
  obtain ⟨at_, kc, kn, a1, a2, a3, a4, a5, a6, a7, a8, a9, a10, a11, a12, a13, a14, a15, a16, a17, a18, a19, a20, a21, a22, a23, a24⟩ := u1
  refine (And.intro (tm_in h1) (fun b e => ?_))
  refine tm_emptyRows (f := 0) (e := 6) (tm_w12 (v := 0) h1 e rfl) hb2 (by decide) (by decide) ?_
  intro u2 h2
  obtain ⟨at_, kc, kn, a1, a2, a3, a4, a5, a6, a7, a8, a9, a10, a11, a12, a13, a14, a15, a16, a17, a18, a19, a20, a21, a22, a23, a24⟩ := u2
  refine tm_moveTo (r := 0) (c := 0) h2 (by decide) (by decide) ?_
  intro u3 h3
  obtain ⟨at_, kc, kn, a1, a2, a3, a4, a5, a6, a7, a8, a9, a10, a11, a12, a13, a14, a15, a16, a17, a18, a19, a20, a21, a22, a23, a24⟩ := u3
  refine tm_wholeRegion h3 ?_
  intro u4 h4
  obtain ⟨at_, kc, kn, a1, a2, a3, a4, a5, a6, a7, a8, a9, a10, a11, a12, a13, a14, a15, a16, a17, a18, a19, a20, a21, a22, a23, a24⟩ := u4
  refine (And.intro (tm_in h4) (fun c6 e6 => (And.intro (tm_in h4) (fun c7 e7 => (And.intro (tm_in h4) (fun c10 e10 => (And.intro (tm_in h4) (fun c11 e11 => (And.intro (tm_in h4) (fun c13 e13 => (And.intro (tm_in h4) (fun c14 e14 => (And.intro (tm_in h4) (fun c15 e15 => (And.intro (tm_in h4) (fun c20 e20 => ?_))))))))))))))))
  have h5 := tm_w20 (v := 0) (tm_w15 (v := 0) (tm_w14 (v := 0) (tm_w13 (v := 0) (tm_w11 (v := 1) (tm_w10 (v := 0) (tm_w7 (v := 0) (tm_w6 (v := 0) h4 e6 rfl) e7 rfl) e10 rfl) e11 rfl) e13 rfl) e14 rfl) e15 rfl) e20 rfl
  have ht := tm_lt h4
  refine pk_eq t 0 (fun z => hp _ ?_) (fun z => hp _ ?_) (tm_at h4) rfl
  · subst z
    exact tm_wkn (v := 0) (tm_wkc (v := 0) h5 rfl) rfl
  · unfold tm_ca
    rw [if_neg z]
    exact h5
theorem tm_clearAll {post : St1 → Prop} {u : St1} {t : Nat} {T O : tm_T} (h : tm_R u t T O) (h3 : ∀ i, T 3 i ≤ 11) (hp : ∀ u', tm_R u' t (tm_ca t T) O → post u') : wpX_clearAll post u := by
  obtain ⟨at_, kc, kn, a1, a2, a3, a4, a5, a6, a7, a8, a9, a10, a11, a12, a13, a14, a15, a16, a17, a18, a19, a20, a21, a22, a23, a24⟩ := u
  refine ⟨3, pk_le 2 0 (fun z => absurd z (by decide)) (fun _ => ⟨7, tm_clear9 (k := 0) (by decide) 6 0 T a1 a2 a3 a4 a5 a6 a7 a8 a9 a10 a11 a12 a13 a14 a15 a16 a17 a18 a19 a20 a21 a22 a23 a24 (by decide) h ?_⟩)⟩
  intro a1 a2 a3 a4 a5 a6 a7 a8 a9 a10 a11 a12 a13 a14 a15 a16 a17 a18 a19 a20 a21 a22 a23 a24 h1
  refine pk_le 2 1 (fun z => absurd z (by decide)) (fun _ => ⟨7, tm_clear9 (k := 1) (by decide) 6 0 _ a1 a2 a3 a4 a5 a6 a7 a8 a9 a10 a11 a12 a13 a14 a15 a16 a17 a18 a19 a20 a21 a22 a23 a24 (by decide) h1 ?_⟩)
  intro a1 a2 a3 a4 a5 a6 a7 a8 a9 a10 a11 a12 a13 a14 a15 a16 a17 a18 a19 a20 a21 a22 a23 a24 h2
  exact tm_clearR h2 h3 hp
def tm_sw (T : tm_T) (b : Nat) : tm_T :=
  if T 12 0 = b then T else if b = 0 then
    tm_up (tm_up (tm_mt (tm_up (tm_up T 6 0 0) 12 0 0) (T 16 0) (T 17 0)) 8 0 (T 18 0)) 9 0 (T 19 0)
  else tm_wr (tm_mt (tm_er (tm_up (tm_up (tm_up (tm_up (tm_up (tm_up T 6 0 0) 16 0 (T 4 0)) 17 0 (T 5 0)) 18 0 (T 8 0)) 19 0 (T 9 0)) 12 0 1) 0 6) 0 0)
theorem tm_switch19 {post : St1 → Prop} {t b : Nat} {T O : tm_T} {at_ kc kn a1 a2 a3 a4 a5 a6 a7 a8 a9 a10 a11 a12 a13 a14 a15 a16 a17 a18 a19 a20 a21 a22 a23 a24} (h : tm_R (at_, kc, kn, a1, a2, a3, a4, a5, a6, a7, a8, a9, a10, a11, a12, a13, a14, a15, a16, a17, a18, a19, a20, a21, a22, a23, a24) t T O) (hI : tm_I T) (hb : b < 2) (hp : ∀ u', tm_R u' t (tm_sw T b) O → post u') : wX_switchOther_19 post (nI b) (nI (T 12 0)) (nI b) at_ kc kn a1 a2 a3 a4 a5 a6 a7 a8 a9 a10 a11 a12 a13 a14 a15 a16 a17 a18 a19 a20 a21 a22 a23 a24 := by
  have h12 := tm_b12 hI.1 0
  have h4 := tm_b4 hI.1 0
  have h5 := tm_b5 hI.1 0
  have h8 := tm_b8 hI.1 0
  have h9 := tm_b9 hI.1 0
  have h16 := tm_b16 hI.1 0
  have h17 := tm_b17 hI.1 0
  have h18 := tm_b18 hI.1 0
  have h19 := tm_b19 hI.1 0
  refine pk_eq b (T 12 0) (fun z => hp _ ?_) (fun z => (And.intro (tm_in h) (fun b6 e6 => pk_eq b 0 (fun y => (And.intro (tm_in h) (fun b12 e12 => (And.intro (tm_in h) (And.intro (tm_in h) (?_)))))) (fun y => ?_))))
  · unfold tm_sw
    rw [if_pos z.symm]
    exact h
  · have h' := tm_w12 (v := 0) (tm_w6 (v := 0) h e6 rfl) e12 rfl
    rw [tm_r16 h, tm_r17 h]
    refine tm_moveTo h' (by omega) (by omega) ?_
    intro u1 g
    obtain ⟨at_, kc, kn, a1, a2, a3, a4, a5, a6, a7, a8, a9, a10, a11, a12, a13, a14, a15, a16, a17, a18, a19, a20, a21, a22, a23, a24⟩ := u1
    refine (And.intro (tm_in g) (And.intro (tm_in g) (fun b8 e8 => (And.intro (tm_in g) (And.intro (tm_in g) (fun b9 e9 => hp _ ?_))))))
    unfold tm_sw
    rw [if_neg (fun q => z q.symm), if_pos y]
    have q18 := tm_r18 g
    have q19 := tm_r19 g
    exact tm_w9 (tm_w8 g e8 (tm_nc' (show T 18 0 < 128 by omega) q18)) e9 (tm_nc' (show T 19 0 < 128 by omega) q19)
  · refine (And.intro (tm_in h) (And.intro (tm_in h) (fun b16 e16 => (And.intro (tm_in h) (And.intro (tm_in h) (fun b17 e17 => (And.intro (tm_in h) (And.intro (tm_in h) (fun b18 e18 => (And.intro (tm_in h) (And.intro (tm_in h) (fun b19 e19 => (And.intro (tm_in h) (fun b12 e12 => ?_))))))))))))))
    have g := tm_w12 (v := 1) (tm_w19 (tm_w18 (tm_w17 (tm_w16 (tm_w6 (v := 0) h e6 rfl) e16 (tm_nc' (show T 4 0 < 128 by omega) (tm_r4 h))) e17 (tm_nc' (show T 5 0 < 128 by omega) (tm_r5 h))) e18 (tm_nc' (show T 8 0 < 128 by omega) (tm_r8 h))) e19 (tm_nc' (show T 9 0 < 128 by omega) (tm_r9 h))) e12 rfl
    refine tm_emptyRows (f := 0) (e := 6) g ⟨Nat.le_refl 1, fun i => tm_b3 hI.1 i⟩ (by decide) (by decide) ?_
    intro u1 g1
    obtain ⟨at_, kc, kn, a1, a2, a3, a4, a5, a6, a7, a8, a9, a10, a11, a12, a13, a14, a15, a16, a17, a18, a19, a20, a21, a22, a23, a24⟩ := u1
    refine tm_moveTo (r := 0) (c := 0) g1 (by decide) (by decide) ?_
    intro u2 g2
    obtain ⟨at_, kc, kn, a1, a2, a3, a4, a5, a6, a7, a8, a9, a10, a11, a12, a13, a14, a15, a16, a17, a18, a19, a20, a21, a22, a23, a24⟩ := u2
    refine tm_wholeRegion g2 ?_
    intro u3 g3
    obtain ⟨at_, kc, kn, a1, a2, a3, a4, a5, a6, a7, a8, a9, a10, a11, a12, a13, a14, a15, a16, a17, a18, a19, a20, a21, a22, a23, a24⟩ := u3
    refine hp _ ?_
    unfold tm_sw
    rw [if_neg (fun q => z q.symm), if_neg y]
    exact g3
theorem tm_switchOther {post : St1 → Prop} {u : St1} {t b : Nat} {T O : tm_T} (h : tm_R u t T O) (hI : tm_I T) (hb : b < 2) (hp : ∀ u', tm_R u' t (tm_sw T b) O → post u') : wpX_switchOther post u (nI b) := by
  obtain ⟨at_, kc, kn, a1, a2, a3, a4, a5, a6, a7, a8, a9, a10, a11, a12, a13, a14, a15, a16, a17, a18, a19, a20, a21, a22, a23, a24⟩ := u
  have h12 := tm_b12 hI.1 0
  have key := tm_switch19 (post := post) h hI hb hp
  refine (And.intro (tm_in h) (pk_eq (T 12 0) 1 (fun z => ?_) (fun z => ?_) (tm_r12 h) rfl))
  · rw [z] at key
    exact key
  · rw [show T 12 0 = 0 by omega] at key
    exact key
end
section
/-! the numbers of a list -/
section
variable {at_ kc kn : Int32} {a1 a2 a3 a4 a5 a6 a7 a8 a9 a10 a11 a12 a13 a14 a15 a16 a17 a18 a19 a20 a21 a22 a23 a24 : Nat → Int32} {t : Nat} {T O : tm_T}
theorem tm_r21 (h : tm_R (at_, kc, kn, a1, a2, a3, a4, a5, a6, a7, a8, a9, a10, a11, a12, a13, a14, a15, a16, a17, a18, a19, a20, a21, a22, a23, a24) t T O) (hg : T 27 0 = 1) : a21 at_.toNatClampNeg = nI (T 21 0) := by
  rw [tm_cl h]
  exact (tm_sn h.2.2.1 hg).1
theorem tm_r22 (h : tm_R (at_, kc, kn, a1, a2, a3, a4, a5, a6, a7, a8, a9, a10, a11, a12, a13, a14, a15, a16, a17, a18, a19, a20, a21, a22, a23, a24) t T O) (hg : T 27 0 = 1) : a22 at_.toNatClampNeg = nI (T 22 0) := by
  rw [tm_cl h]
  exact (tm_sn h.2.2.1 hg).2.1
theorem tm_r23 {i : Int32} {j : Nat} (h : tm_R (at_, kc, kn, a1, a2, a3, a4, a5, a6, a7, a8, a9, a10, a11, a12, a13, a14, a15, a16, a17, a18, a19, a20, a21, a22, a23, a24) t T O) (hg : T 27 0 = 1) (hi : i = nI (t * 4 + j)) (hj : j < 4) (hc : j < T 22 0) : a23 i.toNatClampNeg = nI (T 23 j) := by
  have ht := h.2.1
  rw [hi, nI_clamp (by omega)]
  exact (tm_sn h.2.2.1 hg).2.2 j hj hc
theorem tm_w21 {x : Nat → Int32} {y : Int32} {v : Nat} (h : tm_R (at_, kc, kn, a1, a2, a3, a4, a5, a6, a7, a8, a9, a10, a11, a12, a13, a14, a15, a16, a17, a18, a19, a20, a21, a22, a23, a24) t T O) (e : x = upd a21 at_.toNatClampNeg y) (hy : y = nI v) : tm_R (at_, kc, kn, a1, a2, a3, a4, a5, a6, a7, a8, a9, a10, a11, a12, a13, a14, a15, a16, a17, a18, a19, a20, x, a22, a23, a24) t (tm_up T 21 0 v) O := by
  subst e hy
  rw [tm_cl h]
  obtain ⟨g1, g2, g3, g4⟩ := h
  refine (And.intro (g1) (And.intro (g2) (And.intro (?_) (?_))))
  · obtain ⟨h1, h2, h3, h4, h5, h6, h7, h8, h9, h10, h11, h12, h13, h14, h15, h16, h17, h18, h19, h20, hn, hk⟩ := g3
    exact (And.intro (h1) (And.intro (h2) (And.intro (h3) (And.intro (h4) (And.intro (h5) (And.intro (h6) (And.intro (h7) (And.intro (h8) (And.intro (h9) (And.intro (h10) (And.intro (h11) (And.intro (h12) (And.intro (h13) (And.intro (h14) (And.intro (h15) (And.intro (h16) (And.intro (h17) (And.intro (h18) (And.intro (h19) (And.intro (h20) (And.intro (fun g => (And.intro (pk_us) (And.intro ((hn g).2.1) ((hn g).2.2)))) (hk))))))))))))))))))))))
  · obtain ⟨h1, h2, h3, h4, h5, h6, h7, h8, h9, h10, h11, h12, h13, h14, h15, h16, h17, h18, h19, h20, hn, hk⟩ := g4
    exact (And.intro (h1) (And.intro (h2) (And.intro (h3) (And.intro (h4) (And.intro (h5) (And.intro (h6) (And.intro (h7) (And.intro (h8) (And.intro (h9) (And.intro (h10) (And.intro (h11) (And.intro (h12) (And.intro (h13) (And.intro (h14) (And.intro (h15) (And.intro (h16) (And.intro (h17) (And.intro (h18) (And.intro (h19) (And.intro (h20) (And.intro (fun g => (And.intro ((pk_un (by omega)).trans (hn g).1) (And.intro ((hn g).2.1) ((hn g).2.2)))) (hk))))))))))))))))))))))
theorem tm_w22 {x : Nat → Int32} {y : Int32} {v : Nat} (h : tm_R (at_, kc, kn, a1, a2, a3, a4, a5, a6, a7, a8, a9, a10, a11, a12, a13, a14, a15, a16, a17, a18, a19, a20, a21, a22, a23, a24) t T O) (e : x = upd a22 at_.toNatClampNeg y) (hy : y = nI v) (hv : T 27 0 = 1 → ∀ i, i < 4 → i < v → i < T 22 0 ∨ a23 (t * 4 + i) = nI (T 23 i)) : tm_R (at_, kc, kn, a1, a2, a3, a4, a5, a6, a7, a8, a9, a10, a11, a12, a13, a14, a15, a16, a17, a18, a19, a20, a21, x, a23, a24) t (tm_up T 22 0 v) O := by
  subst e hy
  rw [tm_cl h]
  obtain ⟨g1, g2, g3, g4⟩ := h
  refine (And.intro (g1) (And.intro (g2) (And.intro (?_) (?_))))
  · obtain ⟨h1, h2, h3, h4, h5, h6, h7, h8, h9, h10, h11, h12, h13, h14, h15, h16, h17, h18, h19, h20, hn, hk⟩ := g3
    exact (And.intro (h1) (And.intro (h2) (And.intro (h3) (And.intro (h4) (And.intro (h5) (And.intro (h6) (And.intro (h7) (And.intro (h8) (And.intro (h9) (And.intro (h10) (And.intro (h11) (And.intro (h12) (And.intro (h13) (And.intro (h14) (And.intro (h15) (And.intro (h16) (And.intro (h17) (And.intro (h18) (And.intro (h19) (And.intro (h20) (And.intro (fun g => (And.intro ((hn g).1) (And.intro (pk_us) (fun i hi hc => (hv g i hi hc).elim (fun z => (hn g).2.2 i hi z) (fun z => z))))) (hk))))))))))))))))))))))
  · obtain ⟨h1, h2, h3, h4, h5, h6, h7, h8, h9, h10, h11, h12, h13, h14, h15, h16, h17, h18, h19, h20, hn, hk⟩ := g4
    exact (And.intro (h1) (And.intro (h2) (And.intro (h3) (And.intro (h4) (And.intro (h5) (And.intro (h6) (And.intro (h7) (And.intro (h8) (And.intro (h9) (And.intro (h10) (And.intro (h11) (And.intro (h12) (And.intro (h13) (And.intro (h14) (And.intro (h15) (And.intro (h16) (And.intro (h17) (And.intro (h18) (And.intro (h19) (And.intro (h20) (And.intro (fun g => (And.intro ((hn g).1) (And.intro ((pk_un (by omega)).trans (hn g).2.1) ((hn g).2.2)))) (hk))))))))))))))))))))))
theorem tm_w23 {i : Int32} {j : Nat} {x : Nat → Int32} {y : Int32} {v : Nat} (h : tm_R (at_, kc, kn, a1, a2, a3, a4, a5, a6, a7, a8, a9, a10, a11, a12, a13, a14, a15, a16, a17, a18, a19, a20, a21, a22, a23, a24) t T O) (hi : i = nI (t * 4 + j)) (hj : j < 4) (e : x = upd a23 i.toNatClampNeg y) (hy : y = nI v) : tm_R (at_, kc, kn, a1, a2, a3, a4, a5, a6, a7, a8, a9, a10, a11, a12, a13, a14, a15, a16, a17, a18, a19, a20, a21, a22, x, a24) t (tm_up T 23 j v) O := by
  have ht := h.2.1
  subst e hy hi
  rw [nI_clamp (show t * 4 + j < 2 ^ 31 by omega)]
  obtain ⟨g1, g2, g3, g4⟩ := h
  refine (And.intro (g1) (And.intro (g2) (And.intro (?_) (?_))))
  · obtain ⟨h1, h2, h3, h4, h5, h6, h7, h8, h9, h10, h11, h12, h13, h14, h15, h16, h17, h18, h19, h20, hn, hk⟩ := g3
    refine (And.intro (h1) (And.intro (h2) (And.intro (h3) (And.intro (h4) (And.intro (h5) (And.intro (h6) (And.intro (h7) (And.intro (h8) (And.intro (h9) (And.intro (h10) (And.intro (h11) (And.intro (h12) (And.intro (h13) (And.intro (h14) (And.intro (h15) (And.intro (h16) (And.intro (h17) (And.intro (h18) (And.intro (h19) (And.intro (h20) (And.intro (fun g => (And.intro ((hn g).1) (And.intro ((hn g).2.1) (fun i hi hc => ?_)))) (hk))))))))))))))))))))))
    by_cases z : i = j
    · rw [z, pk_us, tm_upS]
    · rw [pk_un (by omega), tm_upI T z]
      exact (hn g).2.2 i hi hc
  · obtain ⟨h1, h2, h3, h4, h5, h6, h7, h8, h9, h10, h11, h12, h13, h14, h15, h16, h17, h18, h19, h20, hn, hk⟩ := g4
    exact (And.intro (h1) (And.intro (h2) (And.intro (h3) (And.intro (h4) (And.intro (h5) (And.intro (h6) (And.intro (h7) (And.intro (h8) (And.intro (h9) (And.intro (h10) (And.intro (h11) (And.intro (h12) (And.intro (h13) (And.intro (h14) (And.intro (h15) (And.intro (h16) (And.intro (h17) (And.intro (h18) (And.intro (h19) (And.intro (h20) (And.intro (fun g => (And.intro ((hn g).1) (And.intro ((hn g).2.1) (fun i hi hc => (pk_un (by omega)).trans ((hn g).2.2 i hi hc))))) (hk))))))))))))))))))))))
def tm_li (T : tm_T) : tm_T := tm_up (tm_up (tm_up (tm_up T 21 0 0) 22 0 1) 23 0 0) 27 0 1
theorem tm_wli {i : Int32} {x y z : Nat → Int32} (h : tm_R (at_, kc, kn, a1, a2, a3, a4, a5, a6, a7, a8, a9, a10, a11, a12, a13, a14, a15, a16, a17, a18, a19, a20, a21, a22, a23, a24) t T O) (ex : x = upd a21 at_.toNatClampNeg 0) (ey : y = upd a22 at_.toNatClampNeg 1) (hi : i = nI (t * 4 + 0)) (ez : z = upd a23 i.toNatClampNeg 0) : tm_R (at_, kc, kn, a1, a2, a3, a4, a5, a6, a7, a8, a9, a10, a11, a12, a13, a14, a15, a16, a17, a18, a19, a20, x, y, z, a24) t (tm_li T) O := by
  have ht := h.2.1
  subst ex ey ez hi
  rw [tm_cl h, nI_clamp (show t * 4 + 0 < 2 ^ 31 by omega)]
  obtain ⟨g1, g2, g3, g4⟩ := h
  refine (And.intro (g1) (And.intro (g2) (And.intro (?_) (?_))))
  · obtain ⟨h1, h2, h3, h4, h5, h6, h7, h8, h9, h10, h11, h12, h13, h14, h15, h16, h17, h18, h19, h20, hn, hk⟩ := g3
    refine (And.intro (h1) (And.intro (h2) (And.intro (h3) (And.intro (h4) (And.intro (h5) (And.intro (h6) (And.intro (h7) (And.intro (h8) (And.intro (h9) (And.intro (h10) (And.intro (h11) (And.intro (h12) (And.intro (h13) (And.intro (h14) (And.intro (h15) (And.intro (h16) (And.intro (h17) (And.intro (h18) (And.intro (h19) (And.intro (h20) (And.intro (fun g => (And.intro (pk_us) (And.intro (pk_us) (fun i hi hc => ?_)))) (hk))))))))))))))))))))))
    have hc' : i < 1 := hc
    obtain rfl : i = 0 := by omega
    exact pk_us
  · obtain ⟨h1, h2, h3, h4, h5, h6, h7, h8, h9, h10, h11, h12, h13, h14, h15, h16, h17, h18, h19, h20, hn, hk⟩ := g4
    exact (And.intro (h1) (And.intro (h2) (And.intro (h3) (And.intro (h4) (And.intro (h5) (And.intro (h6) (And.intro (h7) (And.intro (h8) (And.intro (h9) (And.intro (h10) (And.intro (h11) (And.intro (h12) (And.intro (h13) (And.intro (h14) (And.intro (h15) (And.intro (h16) (And.intro (h17) (And.intro (h18) (And.intro (h19) (And.intro (h20) (And.intro (fun g => (And.intro ((pk_un (by omega)).trans (hn g).1) (And.intro ((pk_un (by omega)).trans (hn g).2.1) (fun i hi hc => (pk_un (by omega)).trans ((hn g).2.2 i hi hc))))) (hk))))))))))))))))))))))
/-- below LIST the numbers don't count -/
def tm_n0 (T : tm_T) : tm_T := fun f i => if f = 21 then 0 else if f = 22 then 1 else if f = 23 then 0 else if f = 27 then 0 else T f i
def tm_no (T : tm_T) : tm_T := if 2 ≤ T 20 0 then T else tm_n0 T
theorem tm_S_n0 (h : tm_Sl (at_, kc, kn, a1, a2, a3, a4, a5, a6, a7, a8, a9, a10, a11, a12, a13, a14, a15, a16, a17, a18, a19, a20, a21, a22, a23, a24) t T) : tm_Sl (at_, kc, kn, a1, a2, a3, a4, a5, a6, a7, a8, a9, a10, a11, a12, a13, a14, a15, a16, a17, a18, a19, a20, a21, a22, a23, a24) t (tm_n0 T) := by
  obtain ⟨h1, h2, h3, h4, h5, h6, h7, h8, h9, h10, h11, h12, h13, h14, h15, h16, h17, h18, h19, h20, hn, hk⟩ := h
  exact (And.intro (h1) (And.intro (h2) (And.intro (h3) (And.intro (h4) (And.intro (h5) (And.intro (h6) (And.intro (h7) (And.intro (h8) (And.intro (h9) (And.intro (h10) (And.intro (h11) (And.intro (h12) (And.intro (h13) (And.intro (h14) (And.intro (h15) (And.intro (h16) (And.intro (h17) (And.intro (h18) (And.intro (h19) (And.intro (h20) (And.intro (fun g => absurd (show (0 : Nat) = 1 from g) (by decide)) (hk))))))))))))))))))))))
theorem tm_R_no (h : tm_R (at_, kc, kn, a1, a2, a3, a4, a5, a6, a7, a8, a9, a10, a11, a12, a13, a14, a15, a16, a17, a18, a19, a20, a21, a22, a23, a24) t T O) : tm_R (at_, kc, kn, a1, a2, a3, a4, a5, a6, a7, a8, a9, a10, a11, a12, a13, a14, a15, a16, a17, a18, a19, a20, a21, a22, a23, a24) t (tm_no T) O := by
  unfold tm_no
  split
  · exact h
  · exact (And.intro (h.1) (And.intro (h.2.1) (And.intro (tm_S_n0 h.2.2.1) (h.2.2.2))))
end
def tm_nm (T : tm_T) (i : Nat) : Nat := if T 22 0 ≤ i then 0 else T 23 i
theorem tm_ix4 (t i : Nat) : nI t * 4 + nI i = nI (t * 4 + i) := by
  rw [show (4 : Int32) = nI 4 from rfl, pk_mul, nI_add]
theorem tm_number {post : Int32 → Prop} {u : St1} {t i : Nat} {T O : tm_T} (h : tm_R u t T O) (hg : T 27 0 = 1) (hb : tm_B T) (hi : i < 4) (hp : post (nI (tm_nm T i))) : wpX_number post u (nI i) := by
  obtain ⟨at_, kc, kn, a1, a2, a3, a4, a5, a6, a7, a8, a9, a10, a11, a12, a13, a14, a15, a16, a17, a18, a19, a20, a21, a22, a23, a24⟩ := u
  have ht := tm_lt h
  have h22 := tm_b22 hb 0
  have ix : at_ * 4 + nI i = nI (t * 4 + i) := by
    rw [tm_at h]
    exact tm_ix4 t i
  unfold tm_nm at hp
  refine (And.intro (tm_in h) (pk_le (T 22 0) i (fun z => ?_) (fun z => (And.intro (pk_in _ _ (by omega) ix) (?_))) (tm_r22 h hg) rfl))
  · rw [if_pos z] at hp
    exact hp
  · rw [if_neg (by omega)] at hp
    exact (congrArg post (tm_r23 h hg ix hi z)).mpr hp
theorem tm_nm_le {T : tm_T} (hb : tm_B T) (i : Nat) : tm_nm T i ≤ 99 := by
  have := tm_b23 hb i
  unfold tm_nm
  split <;> omega
def tm_ad (T : tm_T) (d : Nat) : tm_T := if 4 < T 22 0 then T else tm_up T 23 (T 22 0 - 1) (if 10 * T 23 (T 22 0 - 1) + d ≤ 99 then 10 * T 23 (T 22 0 - 1) + d else 99)
theorem tm_addDigit {post : St1 → Prop} {u : St1} {t d : Nat} {T O : tm_T} (h : tm_R u t T O) (hg : T 27 0 = 1) (hb : tm_B T) (hd : d < 10) (hp : ∀ u', tm_R u' t (tm_ad T d) O → post u') : wpX_addDigit post u (nI d) := by
  obtain ⟨at_, kc, kn, a1, a2, a3, a4, a5, a6, a7, a8, a9, a10, a11, a12, a13, a14, a15, a16, a17, a18, a19, a20, a21, a22, a23, a24⟩ := u
  have ht := tm_lt h
  have h22 := tm_b22 hb 0
  have c22 := tm_c22 hb 0
  have h23 := tm_b23 hb (T 22 0 - 1)
  refine (And.intro (tm_in h) (nm_r (tm_r22 h hg) (pk_lt 4 (T 22 0) (fun z => hp _ ?_) (fun z => ?_))))
  · unfold tm_ad
    rw [if_pos z]
    exact h
  · have ix : at_ * 4 + nI (T 22 0) - 1 = nI (t * 4 + (T 22 0 - 1)) := by
      rw [tm_at h, tm_ix4, show t * 4 + T 22 0 = t * 4 + (T 22 0 - 1) + 1 by omega]
      exact nI_pred _
    have en : ∀ x : Int32, x = nI (t * 4 + (T 22 0 - 1)) → 10 * a23 x.toNatClampNeg + nI d = nI (10 * T 23 (T 22 0 - 1) + d) := by
      intro x hx
      rw [tm_r23 h hg hx (by omega) (by omega), show (10 : Int32) = nI 10 from rfl, pk_mul, nI_add]
    unfold tm_ad at hp
    rw [if_neg (show ¬ 4 < T 22 0 by omega)] at hp
    refine nm_r ix (And.intro (pk_in (t * 4 + (T 22 0 - 1)) 8 (by omega)) (nm_r (en _ rfl) (pk_le (10 * T 23 (T 22 0 - 1) + d) 99 (fun y => (And.intro (pk_in (t * 4 + (T 22 0 - 1)) 8 (by omega)) (fun b e => hp _ ?_))) (fun y => (And.intro (pk_in (t * 4 + (T 22 0 - 1)) 8 (by omega)) (fun b e => hp _ ?_))))))
    · rw [if_pos y]
      exact tm_w23 h rfl (by omega) e (tm_nb _ (by omega))
    · rw [if_neg (by omega)]
      exact tm_w23 h rfl (by omega) e (tm_nb 99 (by decide))
def tm_nn (T : tm_T) : tm_T := if 4 ≤ T 22 0 then tm_up T 22 0 5 else tm_up (tm_up T 23 (T 22 0) 0) 22 0 (T 22 0 + 1)
theorem tm_nextNumber {post : St1 → Prop} {u : St1} {t : Nat} {T O : tm_T} (h : tm_R u t T O) (hg : T 27 0 = 1) (hb : tm_B T) (hp : ∀ u', tm_R u' t (tm_nn T) O → post u') : wpX_nextNumber post u := by
  obtain ⟨at_, kc, kn, a1, a2, a3, a4, a5, a6, a7, a8, a9, a10, a11, a12, a13, a14, a15, a16, a17, a18, a19, a20, a21, a22, a23, a24⟩ := u
  have ht := tm_lt h
  have h22 := tm_b22 hb 0
  unfold tm_nn at hp
  refine (And.intro (tm_in h) (nm_r (tm_r22 h hg) (pk_le 4 (T 22 0) (fun z => ?_) (fun z => ?_))))
  · rw [if_pos z] at hp
    refine pk_le 5 (T 22 0) (fun y => (And.intro (tm_in h) (fun b e => hp _ ?_))) (fun y => (And.intro (tm_in h) (fun b e => hp _ ?_)))
    · exact tm_w22 h e (tm_nb 5 (by decide)) (fun _ i hi _ => Or.inl (by omega))
    · refine tm_w22 h e (tm_nb' (by decide) ?_) (fun _ i hi _ => Or.inl (by omega))
      rw [nI_1]
      congr 1
      omega
  · rw [if_neg (show ¬ 4 ≤ T 22 0 by omega)] at hp
    have ix : at_ * 4 + nI (T 22 0) = nI (t * 4 + T 22 0) := by
      rw [tm_at h]
      exact tm_ix4 _ _
    refine (And.intro (pk_in _ _ (by omega) ix) (fun b e => ?_))
    have h' := tm_w23 (v := 0) h ix (by omega) e rfl
    refine pk_le 5 (T 22 0) (fun y => absurd y (by omega)) (fun y => (And.intro (tm_in h) (fun c ec => hp _ ?_)))
    refine tm_w22 h' ec (tm_nb' (by omega) (nI_1 _)) (fun _ i hi hc => ?_)
    by_cases q : i = T 22 0
    · right
      rw [q, e, ix, nI_clamp (by omega), pk_us, tm_upS]
      rfl
    · left
      show i < T 22 0
      omega
end
section
/-! sequences with numbers -/
def tm_mn (a b : Nat) : Nat := if b ≤ a then b else a
theorem tm_mn_l (a b : Nat) : tm_mn a b ≤ b := by
  unfold tm_mn
  split <;> omega
theorem tm_mn_r (a b : Nat) : tm_mn a b ≤ a := by
  unfold tm_mn
  split <;> omega
theorem tm_mn_p {a b : Nat} (ha : 0 < a) (hb : 0 < b) : 0 < tm_mn a b := by
  unfold tm_mn
  split <;> omega
theorem tm_lesser {post : Int32 → Prop} {a b : Nat} {x y : Int32} (hx : x = nI a) (hy : y = nI b) (ha : a < 2 ^ 31) (hb : b < 2 ^ 31) (hp : post (nI (tm_mn a b))) : wpX_lesser post () x y := by
  subst hx hy
  unfold tm_mn at hp
  refine pk_le b a (fun z => ?_) (fun z => ?_)
  · rw [if_pos z] at hp
    exact hp
  · rw [if_neg (by omega)] at hp
    exact hp
/-- the greater of a - b and c -/
def tm_mx (a b c : Nat) : Nat := if a ≤ b + c then c else a - b
theorem tm_subLe {a b c : Nat} (ha : a < 2 ^ 29) (hb : b < 2 ^ 29) (hc : c < 2 ^ 29) : nI a - nI b ≤ nI c ↔ a ≤ b + c := by
  rw [Int32.le_iff_toInt_le, pk_sub_toInt (by omega) (by omega), nI_toInt (by omega)]
  omega
theorem tm_greater {post : Int32 → Prop} {a b c : Nat} {y : Int32} (hy : y = nI c) (ha : a < 2 ^ 29) (hb : b < 2 ^ 29) (hc : c < 2 ^ 29) (hp : post (nI (tm_mx a b c))) : wpX_greater post () (nI a - nI b) y := by
  subst hy
  unfold tm_mx at hp
  by_cases z : a ≤ b + c
  · rw [if_pos z] at hp
    exact br_t ((tm_subLe ha hb hc).mpr z) hp
  · rw [if_neg z] at hp
    refine br_f (fun w => z ((tm_subLe ha hb hc).mp w)) ?_
    rw [pk_sub (by omega)]
    exact hp
def tm_tr (T : tm_T) (b n : Nat) : tm_T :=
  if b = 65 then tm_mt T (tm_mx (T 4 0) n (if T 4 0 < T 8 0 then 0 else T 8 0)) (T 5 0)
  else if b = 66 then tm_mt T (tm_mn (T 4 0 + n) (if T 9 0 < T 4 0 then 5 else T 9 0)) (T 5 0)
  else if b = 67 then tm_mt T (T 4 0) (tm_mn (T 5 0 + n) 11)
  else if b = 68 then tm_mt T (T 4 0) (tm_mx (T 5 0) n 0)
  else if b = 71 then tm_mt T (T 4 0) (tm_mn (n - 1) 11)
  else if b = 100 then tm_mt T (tm_mn (n - 1) 5) (T 5 0)
  else if b = 72 then tm_mt T (tm_mn (n - 1) 5) (if tm_nm T 1 = 0 then 0 else tm_mn (tm_nm T 1 - 1) 11)
  else tm_mt T (T 4 0) (T 5 0)
theorem tm_mx_le {a b c : Nat} (h : a < 128) (hc : c < 128) : tm_mx a b c < 128 := by
  unfold tm_mx
  split <;> omega
theorem tm_tr229 {post : St1 → Prop} {t r c : Nat} {T O : tm_T} {at_ kc kn a1 a2 a3 a4 a5 a6 a7 a8 a9 a10 a11 a12 a13 a14 a15 a16 a17 a18 a19 a20 a21 a22 a23 a24} (h : tm_R (at_, kc, kn, a1, a2, a3, a4, a5, a6, a7, a8, a9, a10, a11, a12, a13, a14, a15, a16, a17, a18, a19, a20, a21, a22, a23, a24) t T O) (hr : r < 128) (hc : c < 128) (hp : ∀ u', tm_R u' t (tm_mt T r c) O → post u') : wX_travel_229 post (nI r) (nI c) at_ kc kn a1 a2 a3 a4 a5 a6 a7 a8 a9 a10 a11 a12 a13 a14 a15 a16 a17 a18 a19 a20 a21 a22 a23 a24 := by
  unfold wX_travel_229
  exact tm_moveTo h hr hc (fun u' h' => by obtain ⟨at_, kc, kn, a1, a2, a3, a4, a5, a6, a7, a8, a9, a10, a11, a12, a13, a14, a15, a16, a17, a18, a19, a20, a21, a22, a23, a24⟩ := u'; exact hp _ h')
theorem tm_travel {post : St1 → Prop} {u : St1} {t b n : Nat} {T O : tm_T} (h : tm_R u t T O) (hg : T 27 0 = 1) (hb : tm_B T) (hn1 : 1 ≤ n) (hn : n ≤ 99) (hb7 : b < 128) (hp : ∀ u', tm_R u' t (tm_tr T b n) O → post u') : wpX_travel post u (nI b) (nI n) := by
  obtain ⟨at_, kc, kn, a1, a2, a3, a4, a5, a6, a7, a8, a9, a10, a11, a12, a13, a14, a15, a16, a17, a18, a19, a20, a21, a22, a23, a24⟩ := u
  have h4 := tm_b4 hb 0
  have h5 := tm_b5 hb 0
  have h8 := tm_b8 hb 0
  have h9 := tm_b9 hb 0
  unfold tm_tr at hp
  refine (And.intro (tm_in h) (nm_r (tm_r4 h) (And.intro (tm_in h) (nm_r (tm_r5 h) (pk_eq b 65 (fun z => (And.intro (tm_in h) (pk_lt (T 4 0) (T 8 0) (fun y => ?_) (fun y => (And.intro (tm_in h) (?_))) rfl (tm_r8 h)))) (fun z1 => pk_eq b 66 (fun z => (And.intro (tm_in h) (pk_lt (T 9 0) (T 4 0) (fun y => ?_) (fun y => (And.intro (tm_in h) (?_))) (tm_r9 h) rfl))) (fun z2 => pk_eq b 67 (fun z => ?_) (fun z3 => pk_eq b 68 (fun z => ?_) (fun z4 => pk_eq b 71 (fun z => ?_) (fun z5 => pk_eq b 100 (fun z => ?_) (fun z6 => pk_eq b 72 (fun z => ?_) (fun z7 => ?_))))))))))))
  · rw [if_pos z, if_pos y] at hp
    unfold wX_travel_53
    exact tm_greater (c := 0) rfl (by omega) (by omega) (by decide) (tm_tr229 h (tm_mx_le (by omega) (by omega)) (by omega) hp)
  · rw [if_pos z, if_neg (by omega)] at hp
    unfold wX_travel_53
    exact tm_greater (tm_r8 h) (by omega) (by omega) (by omega) (tm_tr229 h (tm_mx_le (by omega) (by omega)) (by omega) hp)
  · rw [if_neg z1, if_pos z, if_pos y] at hp
    unfold wX_travel_99
    exact tm_lesser (b := 5) (nI_add _ _) rfl (by omega) (by omega) (tm_tr229 h (Nat.lt_of_le_of_lt (tm_mn_l _ _) (by omega)) (by omega) hp)
  · rw [if_neg z1, if_pos z, if_neg (by omega)] at hp
    unfold wX_travel_99
    exact tm_lesser (nI_add _ _) (tm_r9 h) (by omega) (by omega) (tm_tr229 h (Nat.lt_of_le_of_lt (tm_mn_l _ _) (by omega)) (by omega) hp)
  · rw [if_neg z1, if_neg z2, if_pos z] at hp
    exact tm_lesser (b := 11) (nI_add _ _) rfl (by omega) (by omega) (tm_tr229 h (by omega) (Nat.lt_of_le_of_lt (tm_mn_l _ _) (by omega)) hp)
  · rw [if_neg z1, if_neg z2, if_neg z3, if_pos z] at hp
    exact tm_greater (c := 0) rfl (by omega) (by omega) (by decide) (tm_tr229 h (by omega) (tm_mx_le (by omega) (by omega)) hp)
  · rw [if_neg z1, if_neg z2, if_neg z3, if_neg z4, if_pos z] at hp
    exact tm_lesser (a := n - 1) (b := 11) (pk_sub (b := 1) (by omega)) rfl (by omega) (by omega) (tm_tr229 h (by omega) (Nat.lt_of_le_of_lt (tm_mn_l _ _) (by omega)) hp)
  · rw [if_neg z1, if_neg z2, if_neg z3, if_neg z4, if_neg z5, if_pos z] at hp
    exact tm_lesser (a := n - 1) (b := 5) (pk_sub (b := 1) (by omega)) rfl (by omega) (by omega) (tm_tr229 h (Nat.lt_of_le_of_lt (tm_mn_l _ _) (by omega)) (by omega) hp)
  · rw [if_neg z1, if_neg z2, if_neg z3, if_neg z4, if_neg z5, if_neg z6, if_pos z] at hp
    have hq := tm_nm_le hb 1
    refine tm_number (i := 1) h hg hb (by decide) ?_
    refine tm_lesser (a := n - 1) (b := 5) (pk_sub (b := 1) (by omega)) rfl (by omega) (by omega) ?_
    refine pk_eq (tm_nm T 1) 0 (fun y => ?_) (fun y => ?_)
    · rw [if_pos y] at hp
      unfold wX_travel_227
      exact tm_tr229 (c := 0) h (Nat.lt_of_le_of_lt (tm_mn_l _ _) (by omega)) (by decide) hp
    · rw [if_neg y] at hp
      refine tm_lesser (a := tm_nm T 1 - 1) (b := 11) (pk_sub (b := 1) (by omega)) rfl (by omega) (by omega) ?_
      unfold wX_travel_227
      exact (tm_tr229 h (Nat.lt_of_le_of_lt (tm_mn_l _ _) (by omega)) (Nat.lt_of_le_of_lt (tm_mn_l _ _) (by omega)) hp)
  · rw [if_neg z1, if_neg z2, if_neg z3, if_neg z4, if_neg z5, if_neg z6, if_neg z7] at hp
    exact tm_tr229 h (by omega) (by omega) hp
def tm_rs2 (T : tm_T) (b p r : Nat) : tm_T := if b = 74 ∧ p ≠ 1 then tm_er T (r + 1) 6 else T
def tm_rs3 (T : tm_T) (b p r : Nat) : tm_T := if b = 74 ∧ p ≠ 0 then tm_er T 0 r else T
def tm_rs (T : tm_T) (b p n : Nat) : tm_T :=
  if b = 88 then tm_ec T (T 4 0) (T 5 0) (tm_mn (T 5 0 + n) 12)
  else if p ≤ 2 then tm_rs3 (tm_rs2 (tm_ec T (T 4 0) (if p = 0 then T 5 0 else 0) (if p = 1 then T 5 0 + 1 else 12)) b p (T 4 0)) b p (T 4 0)
  else T
theorem tm_B_rs2 {T : tm_T} {b p r : Nat} (h : tm_B T) : tm_B (tm_rs2 T b p r) := by
  unfold tm_rs2
  split
  · exact tm_B_er h
  · exact h
theorem tm_B_rs3 {T : tm_T} {b p r : Nat} (h : tm_B T) : tm_B (tm_rs3 T b p r) := by
  unfold tm_rs3
  split
  · exact tm_B_er h
  · exact h
theorem tm_er115 {post : St1 → Prop} {t b p r : Nat} {T O : tm_T} {at_ kc kn a1 a2 a3 a4 a5 a6 a7 a8 a9 a10 a11 a12 a13 a14 a15 a16 a17 a18 a19 a20 a21 a22 a23 a24} (h : tm_R (at_, kc, kn, a1, a2, a3, a4, a5, a6, a7, a8, a9, a10, a11, a12, a13, a14, a15, a16, a17, a18, a19, a20, a21, a22, a23, a24) t T O) (hB : tm_B T) (hb : b < 128) (hpp : p ≤ 2) (hr : r < 6) (hp : ∀ u', tm_R u' t (tm_rs3 T b p r) O → post u') : wX_erase_115 post (nI b) (nI p) (nI r) at_ kc kn a1 a2 a3 a4 a5 a6 a7 a8 a9 a10 a11 a12 a13 a14 a15 a16 a17 a18 a19 a20 a21 a22 a23 a24 := by
  unfold tm_rs3 at hp
  refine pk_eq b 74 (fun z => pk_eq p 0 (fun y => ?_) (fun y => ?_)) (fun z => ?_)
  · rw [if_neg (fun w => w.2 y)] at hp
    exact hp _ h
  · rw [if_pos ⟨z, y⟩] at hp
    exact tm_emptyRows (f := 0) h (tm_B_Sb hB) (by omega) (by omega) (fun u' h' => by obtain ⟨at_, kc, kn, a1, a2, a3, a4, a5, a6, a7, a8, a9, a10, a11, a12, a13, a14, a15, a16, a17, a18, a19, a20, a21, a22, a23, a24⟩ := u'; exact hp _ h')
  · rw [if_neg (fun w => z w.1)] at hp
    exact hp _ h
theorem tm_er82 {post : St1 → Prop} {t b p r f e : Nat} {T O : tm_T} {at_ kc kn a1 a2 a3 a4 a5 a6 a7 a8 a9 a10 a11 a12 a13 a14 a15 a16 a17 a18 a19 a20 a21 a22 a23 a24} (h : tm_R (at_, kc, kn, a1, a2, a3, a4, a5, a6, a7, a8, a9, a10, a11, a12, a13, a14, a15, a16, a17, a18, a19, a20, a21, a22, a23, a24) t T O) (hB : tm_B T) (hb : b < 128) (hpp : p ≤ 2) (hr : r < 6) (hf : f ≤ e) (he : e ≤ 12) (hp : ∀ u', tm_R u' t (tm_rs3 (tm_rs2 (tm_ec T r f e) b p r) b p r) O → post u') : wX_erase_82 post (nI b) (nI p) (nI r) (nI f) (nI e) at_ kc kn a1 a2 a3 a4 a5 a6 a7 a8 a9 a10 a11 a12 a13 a14 a15 a16 a17 a18 a19 a20 a21 a22 a23 a24 := by
  unfold wX_erase_82
  refine tm_emptyCells h (tm_B_Sb hB) hr hf he ?_
  intro u1 h1
  obtain ⟨at_, kc, kn, a1, a2, a3, a4, a5, a6, a7, a8, a9, a10, a11, a12, a13, a14, a15, a16, a17, a18, a19, a20, a21, a22, a23, a24⟩ := u1
  have hB1 : tm_B (tm_ec T r f e) := tm_B_ec hB
  unfold tm_rs2 at hp
  refine pk_eq b 74 (fun z => pk_eq p 1 (fun y => ?_) (fun y => ?_)) (fun z => ?_)
  · rw [if_neg (fun w => w.2 y)] at hp
    exact tm_er115 h1 hB1 hb hpp hr hp
  · rw [if_pos ⟨z, y⟩] at hp
    have e1 : nI r + 1 = nI (r + 1) := nI_1 r
    rw [e1]
    refine tm_emptyRows (e := 6) h1 (tm_B_Sb hB1) (by omega) (by omega) ?_
    intro u2 h2
    obtain ⟨at_, kc, kn, a1, a2, a3, a4, a5, a6, a7, a8, a9, a10, a11, a12, a13, a14, a15, a16, a17, a18, a19, a20, a21, a22, a23, a24⟩ := u2
    exact tm_er115 h2 (tm_B_er hB1) hb hpp hr hp
  · rw [if_neg (fun w => z w.1)] at hp
    exact tm_er115 h1 hB1 hb hpp hr hp
theorem tm_er66 {post : St1 → Prop} {t b p r f c : Nat} {T O : tm_T} {at_ kc kn a1 a2 a3 a4 a5 a6 a7 a8 a9 a10 a11 a12 a13 a14 a15 a16 a17 a18 a19 a20 a21 a22 a23 a24} (h : tm_R (at_, kc, kn, a1, a2, a3, a4, a5, a6, a7, a8, a9, a10, a11, a12, a13, a14, a15, a16, a17, a18, a19, a20, a21, a22, a23, a24) t T O) (hB : tm_B T) (hb : b < 128) (hpp : p ≤ 2) (hr : r < 6) (hf : f ≤ c) (hc : c < 12) (hp : ∀ u', tm_R u' t (tm_rs3 (tm_rs2 (tm_ec T r f (if p = 1 then c + 1 else 12)) b p r) b p r) O → post u') : wX_erase_66 post (nI b) (nI p) (nI r) (nI c) (nI f) at_ kc kn a1 a2 a3 a4 a5 a6 a7 a8 a9 a10 a11 a12 a13 a14 a15 a16 a17 a18 a19 a20 a21 a22 a23 a24 := by
  refine pk_eq p 1 (fun y => ?_) (fun y => ?_)
  · rw [if_pos y] at hp
    have e1 : nI c + 1 = nI (c + 1) := nI_1 c
    rw [e1]
    exact tm_er82 h hB hb hpp hr (by omega) (by omega) hp
  · rw [if_neg y] at hp
    exact tm_er82 (e := 12) h hB hb hpp hr (by omega) (by omega) hp
theorem tm_erase {post : St1 → Prop} {u : St1} {t b p n : Nat} {T O : tm_T} (h : tm_R u t T O) (hB : tm_B T) (hn : n ≤ 99) (hpp : p ≤ 99) (hb : b < 128) (hp : ∀ u', tm_R u' t (tm_rs T b p n) O → post u') : wpX_erase post u (nI b) (nI p) (nI n) := by
  obtain ⟨at_, kc, kn, a1, a2, a3, a4, a5, a6, a7, a8, a9, a10, a11, a12, a13, a14, a15, a16, a17, a18, a19, a20, a21, a22, a23, a24⟩ := u
  have h4 := tm_b4 hB 0
  have h5 := tm_b5 hB 0
  unfold tm_rs at hp
  refine (And.intro (tm_in h) (nm_r (tm_r4 h) (And.intro (tm_in h) (nm_r (tm_r5 h) (pk_eq b 88 (fun z => ?_) (fun z => pk_le p 2 (fun y => pk_eq p 0 (fun w => ?_) (fun w => ?_)) (fun y => ?_)))))))
  · rw [if_pos z] at hp
    refine tm_lesser (b := 12) (nI_add _ _) rfl (by omega) (by omega) ?_
    refine tm_emptyCells h (tm_B_Sb hB) (by omega) ?_ (tm_mn_l _ _) (fun u' h' => by obtain ⟨at_, kc, kn, a1, a2, a3, a4, a5, a6, a7, a8, a9, a10, a11, a12, a13, a14, a15, a16, a17, a18, a19, a20, a21, a22, a23, a24⟩ := u'; exact hp _ h')
    unfold tm_mn
    split <;> omega
  · rw [if_neg z, if_pos y, if_pos w] at hp
    exact tm_er66 h hB hb y (by omega) (by omega) (by omega) hp
  · rw [if_neg z, if_pos y, if_neg w] at hp
    exact tm_er66 (f := 0) h hB hb y (by omega) (by omega) (by omega) hp
  · rw [if_neg z, if_neg (by omega)] at hp
    exact hp _ h
def tm_sc (T : tm_T) (b n : Nat) : tm_T :=
  if b = 0 then tm_ec (tm_cu (tm_ln T (T 4 0)) (tm_mn n (12 - T 5 0)) (12 - tm_mn n (12 - T 5 0) - T 5 0) (T 5 0) T) (T 4 0) (12 - tm_mn n (12 - T 5 0)) 12
  else tm_ec (tm_cd (tm_ln T (T 4 0)) (tm_mn n (12 - T 5 0)) (12 - (T 5 0 + tm_mn n (12 - T 5 0))) 11 T) (T 4 0) (T 5 0) (T 5 0 + tm_mn n (12 - T 5 0))
theorem tm_shC95 {post : St1 → Prop} {t r l k : Nat} {O : tm_T} (hl : l + 12 ≤ 144) (hr : r < 6) (hk : k ≤ 12) : ∀ (n c : Nat) (T : tm_T) (at_ kc kn a1 a2 a3 a4 a5 a6 a7 a8 a9 a10 a11 a12 a13 a14 a15 a16 a17 a18 a19 a20 a21 a22 a23 a24), c + k + n = 12 → tm_B T → tm_R (at_, kc, kn, a1, a2, a3, a4, a5, a6, a7, a8, a9, a10, a11, a12, a13, a14, a15, a16, a17, a18, a19, a20, a21, a22, a23, a24) t T O → (∀ u', tm_R u' t (tm_ec (tm_cu l k n c T) r (12 - k) 12) O → post u') → wX_shiftCells_95 post (nI r) (nI (t * 144 + l)) (nI k) (n + 1) (nI c) at_ kc kn a1 a2 a3 a4 a5 a6 a7 a8 a9 a10 a11 a12 a13 a14 a15 a16 a17 a18 a19 a20 a21 a22 a23 a24 := by
  intro n
  induction n with
  | zero =>
    intro c T at_ kc kn a1 a2 a3 a4 a5 a6 a7 a8 a9 a10 a11 a12 a13 a14 a15 a16 a17 a18 a19 a20 a21 a22 a23 a24 hc hB h hp
    refine pk_le 12 (c + k) (fun _ => ?_) (fun z => absurd z (by omega)) rfl (nI_add _ _)
    have e : (12 : Int32) - nI k = nI (12 - k) := pk_sub (a := 12) hk
    rw [e]
    exact tm_emptyCells (e := 12) h (tm_B_Sb hB) hr (by omega) (by omega) (fun u' h' => by obtain ⟨at_, kc, kn, a1, a2, a3, a4, a5, a6, a7, a8, a9, a10, a11, a12, a13, a14, a15, a16, a17, a18, a19, a20, a21, a22, a23, a24⟩ := u'; exact hp _ h')
  | succ n ih =>
    intro c T at_ kc kn a1 a2 a3 a4 a5 a6 a7 a8 a9 a10 a11 a12 a13 a14 a15 a16 a17 a18 a19 a20 a21 a22 a23 a24 hc hB h hp
    refine pk_le 12 (c + k) (fun z => absurd z (by omega)) (fun _ => ?_) rfl (nI_add _ _)
    have e : nI c + nI k = nI (c + k) := nI_add _ _
    rw [e]
    refine tm_copyCell h (tm_B_Cb hB) (by omega) (by omega) ?_
    intro u1 h1
    obtain ⟨at_, kc, kn, a1, a2, a3, a4, a5, a6, a7, a8, a9, a10, a11, a12, a13, a14, a15, a16, a17, a18, a19, a20, a21, a22, a23, a24⟩ := u1
    exact nm_r (nI_1 c) (ih (c + 1) _ at_ kc kn a1 a2 a3 a4 a5 a6 a7 a8 a9 a10 a11 a12 a13 a14 a15 a16 a17 a18 a19 a20 a21 a22 a23 a24 (by omega) (tm_B_cc hB) h1 hp)
theorem tm_shC47 {post : St1 → Prop} {t r l k q : Nat} {O : tm_T} (hl : l + 12 ≤ 144) (hr : r < 6) (hq : q + k ≤ 12) (hk : 1 ≤ k) : ∀ (n c : Nat) (T : tm_T) (at_ kc kn a1 a2 a3 a4 a5 a6 a7 a8 a9 a10 a11 a12 a13 a14 a15 a16 a17 a18 a19 a20 a21 a22 a23 a24), q + k + n = c + 1 → c < 12 → tm_B T → tm_R (at_, kc, kn, a1, a2, a3, a4, a5, a6, a7, a8, a9, a10, a11, a12, a13, a14, a15, a16, a17, a18, a19, a20, a21, a22, a23, a24) t T O → (∀ u', tm_R u' t (tm_ec (tm_cd l k n c T) r q (q + k)) O → post u') → wX_shiftCells_47 post (nI r) (nI (t * 144 + l)) (nI q) (nI k) (n + 1) (nI c) at_ kc kn a1 a2 a3 a4 a5 a6 a7 a8 a9 a10 a11 a12 a13 a14 a15 a16 a17 a18 a19 a20 a21 a22 a23 a24 := by
  intro n
  induction n with
  | zero =>
    intro c T at_ kc kn a1 a2 a3 a4 a5 a6 a7 a8 a9 a10 a11 a12 a13 a14 a15 a16 a17 a18 a19 a20 a21 a22 a23 a24 hc hc12 hB h hp
    refine pk_lt c (q + k) (fun _ => ?_) (fun z => absurd z (by omega)) rfl (nI_add _ _)
    have e : nI q + nI k = nI (q + k) := nI_add _ _
    rw [e]
    exact tm_emptyCells h (tm_B_Sb hB) hr (by omega) (by omega) (fun u' h' => by obtain ⟨at_, kc, kn, a1, a2, a3, a4, a5, a6, a7, a8, a9, a10, a11, a12, a13, a14, a15, a16, a17, a18, a19, a20, a21, a22, a23, a24⟩ := u'; exact hp _ h')
  | succ n ih =>
    intro c T at_ kc kn a1 a2 a3 a4 a5 a6 a7 a8 a9 a10 a11 a12 a13 a14 a15 a16 a17 a18 a19 a20 a21 a22 a23 a24 hc hc12 hB h hp
    refine pk_lt c (q + k) (fun z => absurd z (by omega)) (fun _ => ?_) rfl (nI_add _ _)
    have e : nI c - nI k = nI (c - k) := pk_sub (by omega)
    rw [e]
    refine tm_copyCell h (tm_B_Cb hB) (by omega) (by omega) ?_
    intro u1 h1
    obtain ⟨at_, kc, kn, a1, a2, a3, a4, a5, a6, a7, a8, a9, a10, a11, a12, a13, a14, a15, a16, a17, a18, a19, a20, a21, a22, a23, a24⟩ := u1
    exact nm_r (sb_m1 (by omega)) (ih (c - 1) _ at_ kc kn a1 a2 a3 a4 a5 a6 a7 a8 a9 a10 a11 a12 a13 a14 a15 a16 a17 a18 a19 a20 a21 a22 a23 a24 (by omega) (by omega) (tm_B_cc hB) h1 hp)
theorem tm_shiftCells {post : St1 → Prop} {u : St1} {t b n : Nat} {T O : tm_T} (h : tm_R u t T O) (hB : tm_B T) (hn1 : 1 ≤ n) (hn : n ≤ 99) (hb : b < 2) (hp : ∀ u', tm_R u' t (tm_sc T b n) O → post u') : wpX_shiftCells post u (nI b) (nI n) := by
  obtain ⟨at_, kc, kn, a1, a2, a3, a4, a5, a6, a7, a8, a9, a10, a11, a12, a13, a14, a15, a16, a17, a18, a19, a20, a21, a22, a23, a24⟩ := u
  have h4 := tm_b4 hB 0
  have h5 := tm_b5 hB 0
  have hm := tm_mn_l n (12 - T 5 0)
  have hm1 : 0 < tm_mn n (12 - T 5 0) := tm_mn_p (by omega) (by omega)
  unfold tm_sc at hp
  refine (And.intro (tm_in h) (nm_r (tm_r4 h) ?_))
  refine tm_lineAt h (tm_B_Sb hB) (by omega) ?_
  refine (And.intro (tm_in h) (nm_r (tm_r5 h) ?_))
  refine tm_lesser (b := 12 - T 5 0) rfl (pk_sub (a := 12) (by omega)) (by omega) (by omega) ?_
  refine pk_eq b 0 (fun z => ⟨12 - tm_mn n (12 - T 5 0) - T 5 0 + 1, ?_⟩) (fun z => ⟨12 - (T 5 0 + tm_mn n (12 - T 5 0)) + 1, ?_⟩)
  · rw [if_pos z] at hp
    exact tm_shC95 (tm_ln_le (tm_B_Sb hB)) (by omega) (by omega) _ _ T at_ kc kn a1 a2 a3 a4 a5 a6 a7 a8 a9 a10 a11 a12 a13 a14 a15 a16 a17 a18 a19 a20 a21 a22 a23 a24 (by omega) hB h hp
  · rw [if_neg z] at hp
    exact tm_shC47 (tm_ln_le (tm_B_Sb hB)) (by omega) (by omega) hm1 _ 11 T at_ kc kn a1 a2 a3 a4 a5 a6 a7 a8 a9 a10 a11 a12 a13 a14 a15 a16 a17 a18 a19 a20 a21 a22 a23 a24 (by omega) (by decide) hB h hp
def tm_ti (b f to : Nat) : Nat → tm_T → tm_T
  | 0, T => T
  | n + 1, T => tm_ti b f to n (if b = 0 then tm_tu T f to else tm_td T f to)
theorem tm_B_ti {b f to n : Nat} {T : tm_T} (h : tm_B T) : tm_B (tm_ti b f to n T) := by
  induction n generalizing T with
  | zero => exact h
  | succ n ih =>
    refine ih ?_
    split
    · exact tm_B_tu h
    · exact tm_B_td h
theorem tm_ti_o {b f to n : Nat} {T : tm_T} {g j : Nat} (h1 : g ≠ 1) (h2 : g ≠ 2) (h3 : g ≠ 3) : tm_ti b f to n T g j = T g j := by
  induction n generalizing T with
  | zero => rfl
  | succ n ih =>
    refine ih.trans ?_
    split
    · exact tm_tu_o h1 h2 h3
    · exact tm_td_o h1 h2 h3
def tm_sh (T : tm_T) (b n : Nat) : tm_T :=
  if T 4 0 < T 8 0 then T else if T 4 0 ≤ T 9 0 then tm_ti b (T 4 0) (T 9 0) (tm_mn n (T 9 0 - T 4 0 + 1)) (tm_up T 5 0 0) else T
theorem tm_shR {post : St1 → Prop} {t b f to N : Nat} {O : tm_T} (hb : b < 2) (hf : f ≤ to) (hto : to < 6) (hN : N < 2 ^ 31) : ∀ (n k : Nat) (T : tm_T) (at_ kc kn a1 a2 a3 a4 a5 a6 a7 a8 a9 a10 a11 a12 a13 a14 a15 a16 a17 a18 a19 a20 a21 a22 a23 a24), k + n = N → tm_B T → tm_R (at_, kc, kn, a1, a2, a3, a4, a5, a6, a7, a8, a9, a10, a11, a12, a13, a14, a15, a16, a17, a18, a19, a20, a21, a22, a23, a24) t T O → (∀ u', tm_R u' t (tm_ti b f to n T) O → post u') → wX_shiftRows_66 post (nI b) (nI f) (nI to) (nI N) (n + 1) (nI k) at_ kc kn a1 a2 a3 a4 a5 a6 a7 a8 a9 a10 a11 a12 a13 a14 a15 a16 a17 a18 a19 a20 a21 a22 a23 a24 := by
  intro n
  induction n with
  | zero =>
    intro k T at_ kc kn a1 a2 a3 a4 a5 a6 a7 a8 a9 a10 a11 a12 a13 a14 a15 a16 a17 a18 a19 a20 a21 a22 a23 a24 hk hB h hp
    exact pk_le N k (fun _ => hp _ h) (fun z => absurd z (by omega))
  | succ n ih =>
    intro k T at_ kc kn a1 a2 a3 a4 a5 a6 a7 a8 a9 a10 a11 a12 a13 a14 a15 a16 a17 a18 a19 a20 a21 a22 a23 a24 hk hB h hp
    unfold tm_ti at hp
    refine pk_le N k (fun z => absurd z (by omega)) (fun _ => pk_eq b 0 (fun z => ?_) (fun z => ?_))
    · rw [if_pos z] at hp
      refine tm_turnUp h (tm_B_Sb hB) hf hto ?_
      intro u1 h1
      obtain ⟨at_, kc, kn, a1, a2, a3, a4, a5, a6, a7, a8, a9, a10, a11, a12, a13, a14, a15, a16, a17, a18, a19, a20, a21, a22, a23, a24⟩ := u1
      exact nm_r (nI_1 k) (ih (k + 1) _ at_ kc kn a1 a2 a3 a4 a5 a6 a7 a8 a9 a10 a11 a12 a13 a14 a15 a16 a17 a18 a19 a20 a21 a22 a23 a24 (by omega) (tm_B_tu hB) h1 hp)
    · rw [if_neg z] at hp
      refine tm_turnDown h (tm_B_Sb hB) hf hto ?_
      intro u1 h1
      obtain ⟨at_, kc, kn, a1, a2, a3, a4, a5, a6, a7, a8, a9, a10, a11, a12, a13, a14, a15, a16, a17, a18, a19, a20, a21, a22, a23, a24⟩ := u1
      exact nm_r (nI_1 k) (ih (k + 1) _ at_ kc kn a1 a2 a3 a4 a5 a6 a7 a8 a9 a10 a11 a12 a13 a14 a15 a16 a17 a18 a19 a20 a21 a22 a23 a24 (by omega) (tm_B_td hB) h1 hp)
theorem tm_shiftRows {post : St1 → Prop} {u : St1} {t b n : Nat} {T O : tm_T} (h : tm_R u t T O) (hB : tm_B T) (hn : n ≤ 99) (hb : b < 2) (hp : ∀ u', tm_R u' t (tm_sh T b n) O → post u') : wpX_shiftRows post u (nI b) (nI n) := by
  obtain ⟨at_, kc, kn, a1, a2, a3, a4, a5, a6, a7, a8, a9, a10, a11, a12, a13, a14, a15, a16, a17, a18, a19, a20, a21, a22, a23, a24⟩ := u
  have h4 := tm_b4 hB 0
  have h8 := tm_b8 hB 0
  have h9 := tm_b9 hB 0
  unfold tm_sh at hp
  refine (And.intro (tm_in h) (nm_r (tm_r4 h) (And.intro (tm_in h) (nm_r (tm_r9 h) (And.intro (tm_in h) (pk_lt (T 4 0) (T 8 0) (fun z => ?_) (fun z => pk_le (T 4 0) (T 9 0) (fun y => (And.intro (tm_in h) (fun b5 e5 => ?_))) (fun y => ?_)) rfl (tm_r8 h)))))))
  · rw [if_pos z] at hp
    exact hp _ h
  · rw [if_neg (by omega), if_pos y] at hp
    have em : nI (T 9 0) - nI (T 4 0) + 1 = nI (T 9 0 - T 4 0 + 1) := by
      rw [pk_sub y, nI_1]
    have hm := tm_mn_l n (T 9 0 - T 4 0 + 1)
    refine tm_lesser rfl em (by omega) (by omega) ?_
    refine ⟨tm_mn n (T 9 0 - T 4 0 + 1) + 1, ?_⟩
    exact tm_shR hb y (by omega) (by omega) _ 0 _ _ _ _ _ _ _ _ _ _ _ _ _ _ _ _ _ _ _ _ _ _ _ _ _ _ _ _ (by omega) (tm_B_up hB (Nat.zero_le _) (Nat.zero_le _)) (tm_w5 (v := 0) h e5 rfl) hp
  · rw [if_neg (by omega), if_neg (by omega)] at hp
    exact hp _ h
end
section
def tm_sr (T : tm_T) (p : Nat) : tm_T :=
  if (if tm_nm T 1 = 0 then 6 else tm_nm T 1) ≤ (if p = 0 then 1 else p) then T
  else if 6 < (if tm_nm T 1 = 0 then 6 else tm_nm T 1) then T
  else tm_mt (tm_up (tm_up T 8 0 ((if p = 0 then 1 else p) - 1)) 9 0 ((if tm_nm T 1 = 0 then 6 else tm_nm T 1) - 1)) 0 0
theorem tm_sr26 {post : St1 → Prop} {t f q : Nat} {T O : tm_T} {at_ kc kn a1 a2 a3 a4 a5 a6 a7 a8 a9 a10 a11 a12 a13 a14 a15 a16 a17 a18 a19 a20 a21 a22 a23 a24} (h : tm_R (at_, kc, kn, a1, a2, a3, a4, a5, a6, a7, a8, a9, a10, a11, a12, a13, a14, a15, a16, a17, a18, a19, a20, a21, a22, a23, a24) t T O) (hf : 1 ≤ f) (hf9 : f ≤ 99) (hq : 1 ≤ q) (hq9 : q ≤ 99) (hp : ∀ u', tm_R u' t (if q ≤ f then T else if 6 < q then T else tm_mt (tm_up (tm_up T 8 0 (f - 1)) 9 0 (q - 1)) 0 0) O → post u') : wX_setRegion_26 post (nI f) (nI q) at_ kc kn a1 a2 a3 a4 a5 a6 a7 a8 a9 a10 a11 a12 a13 a14 a15 a16 a17 a18 a19 a20 a21 a22 a23 a24 := by
  refine pk_le q f (fun z => ?_) (fun z => pk_lt 6 q (fun y => ?_) (fun y => (And.intro (tm_in h) (fun b8 e8 => (And.intro (tm_in h) (fun b9 e9 => ?_))))))
  · rw [if_pos z] at hp
    exact hp _ h
  · rw [if_neg (by omega), if_pos y] at hp
    exact hp _ h
  · rw [if_neg (by omega), if_neg (by omega)] at hp
    have h' := tm_w9 (tm_w8 h e8 (tm_nb' (n := f - 1) (by omega) (pk_sub (b := 1) hf))) e9 (tm_nb' (n := q - 1) (by omega) (pk_sub (b := 1) hq))
    exact tm_moveTo (r := 0) (c := 0) h' (by decide) (by decide) (fun u' h' => by obtain ⟨at_, kc, kn, a1, a2, a3, a4, a5, a6, a7, a8, a9, a10, a11, a12, a13, a14, a15, a16, a17, a18, a19, a20, a21, a22, a23, a24⟩ := u'; exact hp _ h')
theorem tm_sr9 {post : St1 → Prop} {t f : Nat} {T O : tm_T} {at_ kc kn a1 a2 a3 a4 a5 a6 a7 a8 a9 a10 a11 a12 a13 a14 a15 a16 a17 a18 a19 a20 a21 a22 a23 a24} (h : tm_R (at_, kc, kn, a1, a2, a3, a4, a5, a6, a7, a8, a9, a10, a11, a12, a13, a14, a15, a16, a17, a18, a19, a20, a21, a22, a23, a24) t T O) (hg : T 27 0 = 1) (hB : tm_B T) (hf : 1 ≤ f) (hf9 : f ≤ 99) (hp : ∀ u', tm_R u' t (if (if tm_nm T 1 = 0 then 6 else tm_nm T 1) ≤ f then T else if 6 < (if tm_nm T 1 = 0 then 6 else tm_nm T 1) then T else tm_mt (tm_up (tm_up T 8 0 (f - 1)) 9 0 ((if tm_nm T 1 = 0 then 6 else tm_nm T 1) - 1)) 0 0) O → post u') : wX_setRegion_9 post (nI f) at_ kc kn a1 a2 a3 a4 a5 a6 a7 a8 a9 a10 a11 a12 a13 a14 a15 a16 a17 a18 a19 a20 a21 a22 a23 a24 := by
  have hq := tm_nm_le hB 1
  unfold wX_setRegion_9
  refine tm_number (i := 1) h hg hB (by decide) ?_
  refine pk_eq (tm_nm T 1) 0 (fun z => ?_) (fun z => ?_)
  · rw [if_pos z] at hp
    exact tm_sr26 (q := 6) h hf hf9 (by decide) (by decide) hp
  · rw [if_neg z] at hp
    exact tm_sr26 h hf hf9 (by omega) hq hp
theorem tm_setRegion {post : St1 → Prop} {u : St1} {t p : Nat} {T O : tm_T} (h : tm_R u t T O) (hg : T 27 0 = 1) (hB : tm_B T) (hpp : p ≤ 99) (hp : ∀ u', tm_R u' t (tm_sr T p) O → post u') : wpX_setRegion post u (nI p) := by
  obtain ⟨at_, kc, kn, a1, a2, a3, a4, a5, a6, a7, a8, a9, a10, a11, a12, a13, a14, a15, a16, a17, a18, a19, a20, a21, a22, a23, a24⟩ := u
  unfold tm_sr at hp
  refine pk_eq p 0 (fun z => ?_) (fun z => ?_)
  · rw [if_pos z] at hp
    exact tm_sr9 (f := 1) h hg hB (by decide) (by decide) hp
  · rw [if_neg z] at hp
    exact tm_sr9 h hg hB (by omega) hpp hp
/-! the pen -/
def tm_pn (v n : Nat) : Nat :=
  if n = 0 then 0 else if n = 1 then v ||| 1 else if n = 4 then v ||| 2 else if n = 7 then v ||| 4
  else if n = 22 then v &&& 6 else if n = 24 then v &&& 5 else if n = 27 then v &&& 3 else v
theorem tm_pn_le : ∀ v, v < 8 → (v ||| 1) < 8 ∧ (v ||| 2) < 8 ∧ (v ||| 4) < 8 ∧ (v &&& 6) < 8 ∧ (v &&& 5) < 8 ∧ (v &&& 3) < 8 := by decide +kernel
theorem tm_pn_le7 {v n : Nat} (h : v ≤ 7) : tm_pn v n ≤ 7 := by
  have := tm_pn_le v (by omega)
  unfold tm_pn
  repeat' split
  all_goals omega
theorem tm_pn_or : ∀ v, v < 8 → (nI v ||| ((1 : Int32) <<< ((nI 1 / 3) &&& 31))).toInt8.toInt32 = nI (v ||| 1) ∧ (nI v ||| ((1 : Int32) <<< ((nI 4 / 3) &&& 31))).toInt8.toInt32 = nI (v ||| 2) ∧ (nI v ||| ((1 : Int32) <<< ((nI 7 / 3) &&& 31))).toInt8.toInt32 = nI (v ||| 4) := by decide +kernel
theorem tm_pn_and : ∀ v, v < 8 → (nI v &&& (((1 : Int32) <<< (((nI 22 - 21) / 3) &&& 31)) ^^^ (-1))).toInt8.toInt32 = nI (v &&& 6) ∧ (nI v &&& (((1 : Int32) <<< (((nI 24 - 21) / 3) &&& 31)) ^^^ (-1))).toInt8.toInt32 = nI (v &&& 5) ∧ (nI v &&& (((1 : Int32) <<< (((nI 27 - 21) / 3) &&& 31)) ^^^ (-1))).toInt8.toInt32 = nI (v &&& 3) := by decide +kernel
def tm_cpL : Nat → Nat → tm_T → tm_T
  | 0, _, T => T
  | n + 1, i, T => tm_cpL n (i + 1) (tm_up T 7 0 (tm_pn (T 7 0) (T 23 i)))
def tm_cp (T : tm_T) : tm_T := tm_cpL (tm_mn (T 22 0) 4) 0 T
theorem tm_cpL_o {n i : Nat} {T : tm_T} {g j : Nat} (h : g ≠ 7) : tm_cpL n i T g j = T g j := by
  induction n generalizing i T with
  | zero => rfl
  | succ n ih => exact ih.trans (tm_upF _ h)
theorem tm_B_cpL {n i : Nat} {T : tm_T} (h : tm_B T) : tm_B (tm_cpL n i T) := by
  induction n generalizing i T with
  | zero => exact h
  | succ n ih => exact ih (tm_B_up h (Nat.zero_le _) (tm_pn_le7 (tm_b7 h 0)))
theorem tm_chP103 {post : St1 → Prop} {J : Int32 → (Nat → Int32) → (Nat → Int32) → (Nat → Int32) → (Nat → Int32) → (Nat → Int32) → (Nat → Int32) → (Nat → Int32) → (Nat → Int32) → (Nat → Int32) → (Nat → Int32) → (Nat → Int32) → (Nat → Int32) → (Nat → Int32) → (Nat → Int32) → (Nat → Int32) → (Nat → Int32) → (Nat → Int32) → (Nat → Int32) → (Nat → Int32) → (Nat → Int32) → (Nat → Int32) → (Nat → Int32) → (Nat → Int32) → (Nat → Int32) → Prop} {t i v : Nat} {x : Int32} {T O : tm_T} {at_ kc kn a1 a2 a3 a4 a5 a6 a7 a8 a9 a10 a11 a12 a13 a14 a15 a16 a17 a18 a19 a20 a21 a22 a23 a24} (h : tm_R (at_, kc, kn, a1, a2, a3, a4, a5, a6, a7, a8, a9, a10, a11, a12, a13, a14, a15, a16, a17, a18, a19, a20, a21, a22, a23, a24) t T O) (hv : x.toInt8.toInt32 = nI v) (hp : ∀ a1 a2 a3 a4 a5 a6 a7 a8 a9 a10 a11 a12 a13 a14 a15 a16 a17 a18 a19 a20 a21 a22 a23 a24, tm_R (at_, kc, kn, a1, a2, a3, a4, a5, a6, a7, a8, a9, a10, a11, a12, a13, a14, a15, a16, a17, a18, a19, a20, a21, a22, a23, a24) t (tm_up T 7 0 v) O → J (nI (i + 1)) a1 a2 a3 a4 a5 a6 a7 a8 a9 a10 a11 a12 a13 a14 a15 a16 a17 a18 a19 a20 a21 a22 a23 a24) : wX_changePen_103 post J (nI i) x at_ kc kn a1 a2 a3 a4 a5 a6 a7 a8 a9 a10 a11 a12 a13 a14 a15 a16 a17 a18 a19 a20 a21 a22 a23 a24 := by
  refine (And.intro (tm_in h) (fun b e => nm_r (nI_1 i) ?_))
  exact hp _ _ _ _ _ _ _ _ _ _ _ _ _ _ _ _ _ _ _ _ _ _ _ _ (tm_w7 h e hv)
theorem tm_chP {post : St1 → Prop} {t N : Nat} {O : tm_T} {at_ kc kn : Int32} : ∀ (n i : Nat) (T : tm_T) (a1 a2 a3 a4 a5 a6 a7 a8 a9 a10 a11 a12 a13 a14 a15 a16 a17 a18 a19 a20 a21 a22 a23 a24), i + n = N → tm_mn (T 22 0) 4 = N → T 27 0 = 1 → tm_B T → tm_R (at_, kc, kn, a1, a2, a3, a4, a5, a6, a7, a8, a9, a10, a11, a12, a13, a14, a15, a16, a17, a18, a19, a20, a21, a22, a23, a24) t T O → (∀ u', tm_R u' t (tm_cpL n i T) O → post u') → wX_changePen_2 post at_ kc kn (n + 1) (nI i) a1 a2 a3 a4 a5 a6 a7 a8 a9 a10 a11 a12 a13 a14 a15 a16 a17 a18 a19 a20 a21 a22 a23 a24 := by
  intro n
  induction n with
  | zero =>
    intro i T a1 a2 a3 a4 a5 a6 a7 a8 a9 a10 a11 a12 a13 a14 a15 a16 a17 a18 a19 a20 a21 a22 a23 a24 hi hN hg hB h hp
    have h22 := tm_b22 hB 0
    have hm1 := tm_mn_l (T 22 0) 4
    refine (And.intro (tm_in h) (pk_le (T 22 0) i (fun z => hp _ h) (fun z => pk_le 4 i (fun y => hp _ h) (fun y => ?_)) (tm_r22 h hg) rfl))
    unfold tm_mn at hN
    split at hN <;> omega
  | succ n ih =>
    intro i T a1 a2 a3 a4 a5 a6 a7 a8 a9 a10 a11 a12 a13 a14 a15 a16 a17 a18 a19 a20 a21 a22 a23 a24 hi hN hg hB h hp
    have h22 := tm_b22 hB 0
    have h7 := tm_b7 hB 0
    have hm1 := tm_mn_l (T 22 0) 4
    have hm2 := tm_mn_r (T 22 0) 4
    have hq := tm_b23 hB i
    have en : tm_nm T i = T 23 i := if_neg (by omega)
    have hB' : tm_B (tm_up T 7 0 (tm_pn (T 7 0) (T 23 i))) := tm_B_up hB (Nat.zero_le _) (tm_pn_le7 h7)
    have next : ∀ a1 a2 a3 a4 a5 a6 a7 a8 a9 a10 a11 a12 a13 a14 a15 a16 a17 a18 a19 a20 a21 a22 a23 a24, tm_R (at_, kc, kn, a1, a2, a3, a4, a5, a6, a7, a8, a9, a10, a11, a12, a13, a14, a15, a16, a17, a18, a19, a20, a21, a22, a23, a24) t (tm_up T 7 0 (tm_pn (T 7 0) (T 23 i))) O → wX_changePen_2 post at_ kc kn (n + 1) (nI (i + 1)) a1 a2 a3 a4 a5 a6 a7 a8 a9 a10 a11 a12 a13 a14 a15 a16 a17 a18 a19 a20 a21 a22 a23 a24 :=
      fun a1 a2 a3 a4 a5 a6 a7 a8 a9 a10 a11 a12 a13 a14 a15 a16 a17 a18 a19 a20 a21 a22 a23 a24 h' => ih (i + 1) (tm_up T 7 0 (tm_pn (T 7 0) (T 23 i))) a1 a2 a3 a4 a5 a6 a7 a8 a9 a10 a11 a12 a13 a14 a15 a16 a17 a18 a19 a20 a21 a22 a23 a24 (by omega) hN hg hB' h' hp
    have o := tm_pn_or (T 7 0) (by omega)
    have a := tm_pn_and (T 7 0) (by omega)
    refine (And.intro (tm_in h) (pk_le (T 22 0) i (fun z => absurd z (by omega)) (fun _ => pk_le 4 i (fun z => absurd z (by omega)) (fun _ => ?_)) (tm_r22 h hg) rfl))
    refine tm_number h hg hB (by omega) ?_
    rw [en]
    unfold tm_pn at next
    refine (And.intro (tm_in h) (nm_r (tm_r7 h) (pk_eq (T 23 i) 0 (fun z => ?_) (fun z0 => pk_eq (T 23 i) 1 (fun z => ?_) (fun z1 => pk_eq (T 23 i) 4 (fun z => ?_) (fun z2 => pk_eq (T 23 i) 7 (fun z => ?_) (fun z3 => pk_eq (T 23 i) 22 (fun z => ?_) (fun z4 => pk_eq (T 23 i) 24 (fun z => ?_) (fun z5 => pk_eq (T 23 i) 27 (fun z => ?_) (fun z6 => ?_))))))))))
    · rw [if_pos z] at next
      exact tm_chP103 (v := 0) h (by decide) next
    · rw [if_neg z0, if_pos z] at next
      rw [z]
      exact (And.intro (by decide) (nm_e (tm_chP103 h o.1 next)))
    · rw [if_neg z0, if_neg z1, if_pos z] at next
      rw [z]
      exact (And.intro (by decide) (nm_e (tm_chP103 h o.2.1 next)))
    · rw [if_neg z0, if_neg z1, if_neg z2, if_pos z] at next
      rw [z]
      exact (And.intro (by decide) (nm_e (tm_chP103 h o.2.2 next)))
    · rw [if_neg z0, if_neg z1, if_neg z2, if_neg z3, if_pos z] at next
      rw [z]
      exact (And.intro (by decide) (nm_e (tm_chP103 h a.1 next)))
    · rw [if_neg z0, if_neg z1, if_neg z2, if_neg z3, if_neg z4, if_pos z] at next
      rw [z]
      exact (And.intro (by decide) (nm_e (tm_chP103 h a.2.1 next)))
    · rw [if_neg z0, if_neg z1, if_neg z2, if_neg z3, if_neg z4, if_neg z5, if_pos z] at next
      rw [z]
      exact (And.intro (by decide) (nm_e (tm_chP103 h a.2.2 next)))
    · rw [if_neg z0, if_neg z1, if_neg z2, if_neg z3, if_neg z4, if_neg z5, if_neg z6] at next
      exact tm_chP103 h (tm_nb _ (by omega)) next
theorem tm_changePen {post : St1 → Prop} {u : St1} {t : Nat} {T O : tm_T} (h : tm_R u t T O) (hg : T 27 0 = 1) (hB : tm_B T) (hp : ∀ u', tm_R u' t (tm_cp T) O → post u') : wpX_changePen post u := by
  obtain ⟨at_, kc, kn, a1, a2, a3, a4, a5, a6, a7, a8, a9, a10, a11, a12, a13, a14, a15, a16, a17, a18, a19, a20, a21, a22, a23, a24⟩ := u
  exact ⟨tm_mn (T 22 0) 4 + 1, tm_chP _ 0 T a1 a2 a3 a4 a5 a6 a7 a8 a9 a10 a11 a12 a13 a14 a15 a16 a17 a18 a19 a20 a21 a22 a23 a24 (by omega) rfl hg hB h hp⟩
/-! modes -/
def tm_sm (T : tm_T) (b : Nat) : tm_T := if tm_nm T 0 = 7 then tm_up T 11 0 b else if tm_nm T 0 = 49 then tm_sw T b else T
theorem tm_switchMode {post : St1 → Prop} {u : St1} {t b : Nat} {T O : tm_T} (h : tm_R u t T O) (hg : T 27 0 = 1) (hI : tm_I T) (hb : b < 2) (hp : ∀ u', tm_R u' t (tm_sm T b) O → post u') : wpX_switchMode post u (nI b) := by
  obtain ⟨at_, kc, kn, a1, a2, a3, a4, a5, a6, a7, a8, a9, a10, a11, a12, a13, a14, a15, a16, a17, a18, a19, a20, a21, a22, a23, a24⟩ := u
  have hq := tm_nm_le hI.1 0
  unfold tm_sm at hp
  unfold wpX_switchMode
  refine tm_number (i := 0) h hg hI.1 (by decide) ?_
  refine (pk_eq (tm_nm T 0) 7 (fun z => (And.intro (tm_in h) (fun b11 e => ?_))) (fun z => pk_eq (tm_nm T 0) 49 (fun y => ?_) (fun y => ?_)))
  · rw [if_pos z] at hp
    exact hp _ (tm_w11 h e (tm_nz b hb))
  · rw [if_neg z, if_pos y] at hp
    exact tm_switchOther h hI hb (fun u' h' => by obtain ⟨at_, kc, kn, a1, a2, a3, a4, a5, a6, a7, a8, a9, a10, a11, a12, a13, a14, a15, a16, a17, a18, a19, a20, a21, a22, a23, a24⟩ := u'; exact hp _ h')
  · rw [if_neg z, if_neg y] at hp
    exact hp _ h
/-! the last byte of a sequence -/
abbrev tm_kn (b : Nat) : Prop := b = 64 ∨ (65 ≤ b ∧ b ≤ 68) ∨ b = 71 ∨ b = 72 ∨ (74 ≤ b ∧ b ≤ 77) ∨ b = 80 ∨ b = 83 ∨ b = 84 ∨ b = 88 ∨ b = 100 ∨ b = 114
def tm_lb2 (t : Nat) (T : tm_T) (b p n : Nat) : tm_T :=
  if (65 ≤ b ∧ b ≤ 72) ∨ b = 100 then tm_tr T b n
  else if b = 74 ∨ b = 75 ∨ b = 88 then tm_rs T b p n
  else if b = 64 then tm_sc T 1 n else if b = 80 then tm_sc T 0 n
  else if b = 76 then tm_sh T 1 n else if b = 77 then tm_sh T 0 n
  else if b = 83 then tm_su t n T else if b = 84 then tm_sd n T else tm_sr T p
def tm_lb (t : Nat) (T : tm_T) (b : Nat) : tm_T :=
  if T 21 0 = 0 then
    if b = 109 then tm_cp T
    else if b = 104 then tm_up T 10 0 (if tm_nm T 0 = 4 then 1 else T 10 0)
    else if b = 108 then tm_up T 10 0 (if tm_nm T 0 = 4 then 0 else T 10 0)
    else if tm_kn b then tm_lb2 t (tm_up T 6 0 0) b (tm_nm T 0) (if tm_nm T 0 = 0 then 1 else tm_nm T 0)
    else T
  else if b = 104 then tm_sm T 1 else if b = 108 then tm_sm T 0 else T
theorem tm_lb246 {post : St1 → Prop} {t b p n : Nat} {T O : tm_T} {at_ kc kn a1 a2 a3 a4 a5 a6 a7 a8 a9 a10 a11 a12 a13 a14 a15 a16 a17 a18 a19 a20 a21 a22 a23 a24} (h : tm_R (at_, kc, kn, a1, a2, a3, a4, a5, a6, a7, a8, a9, a10, a11, a12, a13, a14, a15, a16, a17, a18, a19, a20, a21, a22, a23, a24) t T O) (hg : T 27 0 = 1) (hI : tm_I T) (hb : b < 128) (hn1 : 1 ≤ n) (hn : n ≤ 99) (hpp : p ≤ 99) (hb2 : ¬ (65 ≤ b ∧ b ≤ 72)) (hp : ∀ u', tm_R u' t (tm_lb2 t T b p n) O → post u') : wX_lastByte_246 post (nI b) (nI p) (nI n) at_ kc kn a1 a2 a3 a4 a5 a6 a7 a8 a9 a10 a11 a12 a13 a14 a15 a16 a17 a18 a19 a20 a21 a22 a23 a24 := by
  unfold tm_lb2 at hp
  refine pk_eq b 100 (fun z => ?_) (fun z0 => pk_eq b 74 (fun z => ?_) (fun z1 => pk_eq b 75 (fun z => ?_) (fun z2 => pk_eq b 88 (fun z => ?_) (fun z3 => pk_eq b 64 (fun z => ?_) (fun z4 => pk_eq b 80 (fun z => ?_) (fun z5 => pk_eq b 76 (fun z => ?_) (fun z6 => pk_eq b 77 (fun z => ?_) (fun z7 => pk_eq b 83 (fun z => ?_) (fun z8 => pk_eq b 84 (fun z => ?_) (fun z9 => ?_))))))))))
  · rw [if_pos (Or.inr z)] at hp
    exact tm_travel h hg hI.1 hn1 hn hb (fun u' h' => by obtain ⟨at_, kc, kn, a1, a2, a3, a4, a5, a6, a7, a8, a9, a10, a11, a12, a13, a14, a15, a16, a17, a18, a19, a20, a21, a22, a23, a24⟩ := u'; exact hp _ h')
  · rw [if_neg (by omega), if_pos (Or.inl z)] at hp
    unfold wX_lastByte_280
    exact tm_erase h hI.1 hn hpp hb (fun u' h' => by obtain ⟨at_, kc, kn, a1, a2, a3, a4, a5, a6, a7, a8, a9, a10, a11, a12, a13, a14, a15, a16, a17, a18, a19, a20, a21, a22, a23, a24⟩ := u'; exact hp _ h')
  · rw [if_neg (by omega), if_pos (Or.inr (Or.inl z))] at hp
    unfold wX_lastByte_280
    exact tm_erase h hI.1 hn hpp hb (fun u' h' => by obtain ⟨at_, kc, kn, a1, a2, a3, a4, a5, a6, a7, a8, a9, a10, a11, a12, a13, a14, a15, a16, a17, a18, a19, a20, a21, a22, a23, a24⟩ := u'; exact hp _ h')
  · rw [if_neg (by omega), if_pos (Or.inr (Or.inr z))] at hp
    unfold wX_lastByte_280
    exact tm_erase h hI.1 hn hpp hb (fun u' h' => by obtain ⟨at_, kc, kn, a1, a2, a3, a4, a5, a6, a7, a8, a9, a10, a11, a12, a13, a14, a15, a16, a17, a18, a19, a20, a21, a22, a23, a24⟩ := u'; exact hp _ h')
  · rw [if_neg (by omega), if_neg (by omega), if_pos z] at hp
    refine pk_eq b 64 (fun _ => ?_) (fun y => absurd z y)
    unfold wX_lastByte_316
    exact tm_shiftCells (b := 1) h hI.1 hn1 hn (by decide) (fun u' h' => by obtain ⟨at_, kc, kn, a1, a2, a3, a4, a5, a6, a7, a8, a9, a10, a11, a12, a13, a14, a15, a16, a17, a18, a19, a20, a21, a22, a23, a24⟩ := u'; exact hp _ h')
  · rw [if_neg (by omega), if_neg (by omega), if_neg z4, if_pos z] at hp
    refine pk_eq b 64 (fun y => absurd y z4) (fun _ => ?_)
    unfold wX_lastByte_316
    exact tm_shiftCells (b := 0) h hI.1 hn1 hn (by decide) (fun u' h' => by obtain ⟨at_, kc, kn, a1, a2, a3, a4, a5, a6, a7, a8, a9, a10, a11, a12, a13, a14, a15, a16, a17, a18, a19, a20, a21, a22, a23, a24⟩ := u'; exact hp _ h')
  · rw [if_neg (by omega), if_neg (by omega), if_neg z4, if_neg z5, if_pos z] at hp
    refine pk_eq b 76 (fun _ => ?_) (fun y => absurd z y)
    unfold wX_lastByte_348
    exact tm_shiftRows (b := 1) h hI.1 hn (by decide) (fun u' h' => by obtain ⟨at_, kc, kn, a1, a2, a3, a4, a5, a6, a7, a8, a9, a10, a11, a12, a13, a14, a15, a16, a17, a18, a19, a20, a21, a22, a23, a24⟩ := u'; exact hp _ h')
  · rw [if_neg (by omega), if_neg (by omega), if_neg z4, if_neg z5, if_neg z6, if_pos z] at hp
    refine pk_eq b 76 (fun y => absurd y z6) (fun _ => ?_)
    unfold wX_lastByte_348
    exact tm_shiftRows (b := 0) h hI.1 hn (by decide) (fun u' h' => by obtain ⟨at_, kc, kn, a1, a2, a3, a4, a5, a6, a7, a8, a9, a10, a11, a12, a13, a14, a15, a16, a17, a18, a19, a20, a21, a22, a23, a24⟩ := u'; exact hp _ h')
  · rw [if_neg (by omega), if_neg (by omega), if_neg z4, if_neg z5, if_neg z6, if_neg z7, if_pos z] at hp
    exact tm_scrollUp h hI (by omega) (fun u' h' => by obtain ⟨at_, kc, kn, a1, a2, a3, a4, a5, a6, a7, a8, a9, a10, a11, a12, a13, a14, a15, a16, a17, a18, a19, a20, a21, a22, a23, a24⟩ := u'; exact hp _ h')
  · rw [if_neg (by omega), if_neg (by omega), if_neg z4, if_neg z5, if_neg z6, if_neg z7, if_neg z8, if_pos z] at hp
    exact tm_scrollDown h hI (by omega) (fun u' h' => by obtain ⟨at_, kc, kn, a1, a2, a3, a4, a5, a6, a7, a8, a9, a10, a11, a12, a13, a14, a15, a16, a17, a18, a19, a20, a21, a22, a23, a24⟩ := u'; exact hp _ h')
  · rw [if_neg (by omega), if_neg (by omega), if_neg z4, if_neg z5, if_neg z6, if_neg z7, if_neg z8, if_neg z9] at hp
    exact tm_setRegion h hg hI.1 hpp (fun u' h' => by obtain ⟨at_, kc, kn, a1, a2, a3, a4, a5, a6, a7, a8, a9, a10, a11, a12, a13, a14, a15, a16, a17, a18, a19, a20, a21, a22, a23, a24⟩ := u'; exact hp _ h')
theorem tm_lb232 {post : St1 → Prop} {t b p n : Nat} {T O : tm_T} {at_ kc kn a1 a2 a3 a4 a5 a6 a7 a8 a9 a10 a11 a12 a13 a14 a15 a16 a17 a18 a19 a20 a21 a22 a23 a24} (h : tm_R (at_, kc, kn, a1, a2, a3, a4, a5, a6, a7, a8, a9, a10, a11, a12, a13, a14, a15, a16, a17, a18, a19, a20, a21, a22, a23, a24) t T O) (hg : T 27 0 = 1) (hI : tm_I T) (hb : b < 128) (hn1 : 1 ≤ n) (hn : n ≤ 99) (hpp : p ≤ 99) (hp : ∀ u', tm_R u' t (tm_lb2 t T b p n) O → post u') : wX_lastByte_232 post (nI b) (nI p) (nI n) at_ kc kn a1 a2 a3 a4 a5 a6 a7 a8 a9 a10 a11 a12 a13 a14 a15 a16 a17 a18 a19 a20 a21 a22 a23 a24 := by
  refine pk_lt b 65 (fun z => ?_) (fun z => pk_le b 72 (fun y => ?_) (fun y => ?_))
  · exact tm_lb246 h hg hI hb hn1 hn hpp (by omega) hp
  · unfold tm_lb2 at hp
    rw [if_pos (Or.inl ⟨z, y⟩)] at hp
    unfold wX_lastByte_252
    exact tm_travel h hg hI.1 hn1 hn hb (fun u' h' => by obtain ⟨at_, kc, kn, a1, a2, a3, a4, a5, a6, a7, a8, a9, a10, a11, a12, a13, a14, a15, a16, a17, a18, a19, a20, a21, a22, a23, a24⟩ := u'; exact hp _ h')
  · exact tm_lb246 h hg hI hb hn1 hn hpp (by omega) hp
theorem tm_lb198 {post : St1 → Prop} {t b : Nat} {T O : tm_T} {at_ kc kn a1 a2 a3 a4 a5 a6 a7 a8 a9 a10 a11 a12 a13 a14 a15 a16 a17 a18 a19 a20 a21 a22 a23 a24} (h : tm_R (at_, kc, kn, a1, a2, a3, a4, a5, a6, a7, a8, a9, a10, a11, a12, a13, a14, a15, a16, a17, a18, a19, a20, a21, a22, a23, a24) t T O) (hg : T 27 0 = 1) (hI : tm_I T) (hb : b < 128) (hp : ∀ u', tm_R u' t (tm_lb2 t (tm_up T 6 0 0) b (tm_nm T 0) (if tm_nm T 0 = 0 then 1 else tm_nm T 0)) O → post u') : wX_lastByte_198 post (nI b) 1 at_ kc kn a1 a2 a3 a4 a5 a6 a7 a8 a9 a10 a11 a12 a13 a14 a15 a16 a17 a18 a19 a20 a21 a22 a23 a24 := by
  have hI' : tm_I (tm_up T 6 0 0) := tm_I_of hI (tm_B_up hI.1 (Nat.zero_le _) (Nat.zero_le _)) rfl rfl rfl rfl
  have hq := tm_nm_le hI.1 0
  refine br_f (by decide) (And.intro (tm_in h) (fun b6 e6 => ?_))
  have h' := tm_w6 (v := 0) h e6 rfl
  have en : tm_nm (tm_up T 6 0 0) 0 = tm_nm T 0 := rfl
  refine tm_number (i := 0) h' hg hI'.1 (by decide) ?_
  rw [en]
  refine pk_eq (tm_nm T 0) 0 (fun z => ?_) (fun z => ?_)
  · rw [if_pos z] at hp
    exact tm_lb232 (n := 1) h' hg hI' hb (by decide) (by decide) hq hp
  · rw [if_neg z] at hp
    exact tm_lb232 h' hg hI' hb (by omega) hq hq hp
theorem tm_lb63 {post : St1 → Prop} {t b : Nat} {T O : tm_T} {at_ kc kn a1 a2 a3 a4 a5 a6 a7 a8 a9 a10 a11 a12 a13 a14 a15 a16 a17 a18 a19 a20 a21 a22 a23 a24} (h : tm_R (at_, kc, kn, a1, a2, a3, a4, a5, a6, a7, a8, a9, a10, a11, a12, a13, a14, a15, a16, a17, a18, a19, a20, a21, a22, a23, a24) t T O) (hg : T 27 0 = 1) (hB : tm_B T) (hb : b < 128) (hp : ∀ u', tm_R u' t (tm_up T 10 0 (if tm_nm T 0 = 4 then (if b = 104 then 1 else 0) else T 10 0)) O → post u') : wX_lastByte_63 post (nI b) at_ kc kn a1 a2 a3 a4 a5 a6 a7 a8 a9 a10 a11 a12 a13 a14 a15 a16 a17 a18 a19 a20 a21 a22 a23 a24 := by
  have hq := tm_nm_le hB 0
  have h10 := tm_b10 hB 0
  unfold wX_lastByte_63
  refine tm_number (i := 0) h hg hB (by decide) ?_
  refine (pk_eq (tm_nm T 0) 4 (fun z => pk_eq b 104 (fun y => (And.intro (tm_in h) (fun c e => ?_))) (fun y => (And.intro (tm_in h) (fun c e => ?_)))) (fun z => (And.intro (tm_in h) (And.intro (tm_in h) (fun c e => ?_)))))
  · rw [if_pos z, if_pos y] at hp
    exact hp _ (tm_w10 h e rfl)
  · rw [if_pos z, if_neg y] at hp
    exact hp _ (tm_w10 h e rfl)
  · rw [if_neg z] at hp
    exact hp _ (tm_w10 h e (tm_nz' (by omega) (tm_r10 h)))
theorem tm_lastByte {post : St1 → Prop} {u : St1} {t b : Nat} {T O : tm_T} (h : tm_R u t T O) (hg : T 27 0 = 1) (hI : tm_I T) (hb : b < 128) (hp : ∀ u', tm_R u' t (tm_lb t T b) O → post u') : wpX_lastByte post u (nI b) := by
  obtain ⟨at_, kc, kn, a1, a2, a3, a4, a5, a6, a7, a8, a9, a10, a11, a12, a13, a14, a15, a16, a17, a18, a19, a20, a21, a22, a23, a24⟩ := u
  have h21 := tm_b21 hI.1 0
  unfold tm_lb at hp
  refine (And.intro (tm_in h) (pk_eq (T 21 0) 0 (fun z => ?_) (fun z => ?_) (tm_r21 h hg) rfl))
  · rw [if_pos z] at hp
    have K : b ≠ 109 → b ≠ 104 → b ≠ 108 → tm_kn b → wX_lastByte_198 post (nI b) 1 at_ kc kn a1 a2 a3 a4 a5 a6 a7 a8 a9 a10 a11 a12 a13 a14 a15 a16 a17 a18 a19 a20 a21 a22 a23 a24 := by
      intro y1 y2 y3 y4
      rw [if_neg y1, if_neg y2, if_neg y3, if_pos y4] at hp
      exact tm_lb198 h hg hI hb hp
    have N : b ≠ 109 → b ≠ 104 → b ≠ 108 → ¬ tm_kn b → wX_lastByte_198 post (nI b) 0 at_ kc kn a1 a2 a3 a4 a5 a6 a7 a8 a9 a10 a11 a12 a13 a14 a15 a16 a17 a18 a19 a20 a21 a22 a23 a24 := by
      intro y1 y2 y3 y4
      rw [if_neg y1, if_neg y2, if_neg y3, if_neg y4] at hp
      exact br_t rfl (hp _ h)
    have M : b ≠ 109 → b ≠ 104 → b ≠ 108 → (b = 64 ∨ (65 ≤ b ∧ b ≤ 68) ∨ b = 71 ∨ b = 72 ∨ (74 ≤ b ∧ b ≤ 77)) → wX_lastByte_152 post (nI b) 1 at_ kc kn a1 a2 a3 a4 a5 a6 a7 a8 a9 a10 a11 a12 a13 a14 a15 a16 a17 a18 a19 a20 a21 a22 a23 a24 :=
      fun y1 y2 y3 y4 => br_f (by decide) (K y1 y2 y3 (by unfold tm_kn; omega))
    have Q : b ≠ 109 → b ≠ 104 → b ≠ 108 → ¬ (b = 64 ∨ (65 ≤ b ∧ b ≤ 68) ∨ b = 71 ∨ b = 72 ∨ (74 ≤ b ∧ b ≤ 77)) → wX_lastByte_152 post (nI b) 0 at_ kc kn a1 a2 a3 a4 a5 a6 a7 a8 a9 a10 a11 a12 a13 a14 a15 a16 a17 a18 a19 a20 a21 a22 a23 a24 :=
      fun y1 y2 y3 y4 => br_t rfl (pk_eq b 80 (fun w => K y1 y2 y3 (by unfold tm_kn; omega)) (fun w1 => pk_eq b 83 (fun w => K y1 y2 y3 (by unfold tm_kn; omega)) (fun w2 => pk_eq b 84 (fun w => K y1 y2 y3 (by unfold tm_kn; omega)) (fun w3 => pk_eq b 88 (fun w => K y1 y2 y3 (by unfold tm_kn; omega)) (fun w4 => pk_eq b 100 (fun w => K y1 y2 y3 (by unfold tm_kn; omega)) (fun w5 => pk_eq b 114 (fun w => K y1 y2 y3 (by unfold tm_kn; omega)) (fun w6 => N y1 y2 y3 (by unfold tm_kn; omega))))))))
    have W : b ≠ 109 → b ≠ 104 → b ≠ 108 → b ≠ 64 → ¬ (65 ≤ b ∧ b ≤ 68) → wX_lastByte_123 post (nI b) at_ kc kn a1 a2 a3 a4 a5 a6 a7 a8 a9 a10 a11 a12 a13 a14 a15 a16 a17 a18 a19 a20 a21 a22 a23 a24 :=
      fun y1 y2 y3 y4 y5 => pk_eq b 71 (fun w => M y1 y2 y3 (by omega)) (fun w1 => pk_eq b 72 (fun w => M y1 y2 y3 (by omega)) (fun w2 => pk_lt b 74 (fun w => Q y1 y2 y3 (by omega)) (fun w3 => pk_lt 77 b (fun w => Q y1 y2 y3 (by omega)) (fun w4 => M y1 y2 y3 (by omega)))))
    refine pk_eq b 109 (fun y => ?_) (fun y1 => pk_eq b 104 (fun y => ?_) (fun y2 => pk_eq b 108 (fun y => ?_) (fun y3 => pk_eq b 64 (fun y => M y1 y2 y3 (by omega)) (fun y4 => pk_lt b 65 (fun y => W y1 y2 y3 y4 (by omega)) (fun y5 => pk_le b 68 (fun y => M y1 y2 y3 (by omega)) (fun y => W y1 y2 y3 y4 (by omega)))))))
    · rw [if_pos y] at hp
      exact tm_changePen h hg hI.1 (fun u' h' => by obtain ⟨at_, kc, kn, a1, a2, a3, a4, a5, a6, a7, a8, a9, a10, a11, a12, a13, a14, a15, a16, a17, a18, a19, a20, a21, a22, a23, a24⟩ := u'; exact hp _ h')
    · rw [if_neg y1, if_pos y] at hp
      refine tm_lb63 h hg hI.1 hb ?_
      rw [if_pos y]
      exact hp
    · rw [if_neg y1, if_neg y2, if_pos y] at hp
      refine tm_lb63 h hg hI.1 hb ?_
      rw [if_neg y2]
      exact hp
  · rw [if_neg z] at hp
    refine pk_eq b 104 (fun y => ?_) (fun y1 => pk_eq b 108 (fun y => ?_) (fun y2 => ?_))
    · rw [if_pos y] at hp
      refine pk_eq b 104 (fun _ => ?_) (fun w => absurd y w)
      unfold wX_lastByte_36
      exact tm_switchMode (b := 1) h hg hI (by decide) (fun u' h' => by obtain ⟨at_, kc, kn, a1, a2, a3, a4, a5, a6, a7, a8, a9, a10, a11, a12, a13, a14, a15, a16, a17, a18, a19, a20, a21, a22, a23, a24⟩ := u'; exact hp _ h')
    · rw [if_neg y1, if_pos y] at hp
      refine pk_eq b 104 (fun w => absurd w y1) (fun _ => ?_)
      unfold wX_lastByte_36
      exact tm_switchMode (b := 0) h hg hI (by decide) (fun u' h' => by obtain ⟨at_, kc, kn, a1, a2, a3, a4, a5, a6, a7, a8, a9, a10, a11, a12, a13, a14, a15, a16, a17, a18, a19, a20, a21, a22, a23, a24⟩ := u'; exact hp _ h')
    · rw [if_neg y1, if_neg y2] at hp
      exact hp _ h
end
section
/-! signs, control bytes, short sequences -/
def tm_lf (t : Nat) (T : tm_T) : tm_T := if T 4 0 = T 9 0 then tm_su t 1 T else if 5 ≤ T 4 0 then T else tm_up T 4 0 (T 4 0 + 1)
theorem tm_lineFeed {post : St1 → Prop} {u : St1} {t : Nat} {T O : tm_T} (h : tm_R u t T O) (hI : tm_I T) (hp : ∀ u', tm_R u' t (tm_lf t T) O → post u') : wpX_lineFeed post u := by
  obtain ⟨at_, kc, kn, a1, a2, a3, a4, a5, a6, a7, a8, a9, a10, a11, a12, a13, a14, a15, a16, a17, a18, a19, a20, a21, a22, a23, a24⟩ := u
  have h4 := tm_b4 hI.1 0
  have h9 := tm_b9 hI.1 0
  unfold tm_lf at hp
  refine (And.intro (tm_in h) (And.intro (tm_in h) (pk_eq (T 4 0) (T 9 0) (fun z => ?_) (fun z => (And.intro (tm_in h) (pk_le 5 (T 4 0) (fun y => ?_) (fun y => (And.intro (tm_in h) (And.intro (tm_in h) (fun b e => ?_)))) rfl (tm_r4 h)))) (tm_r4 h) (tm_r9 h))))
  · rw [if_pos z] at hp
    exact tm_scrollUp (n := 1) h hI (by decide) (fun u' h' => by obtain ⟨at_, kc, kn, a1, a2, a3, a4, a5, a6, a7, a8, a9, a10, a11, a12, a13, a14, a15, a16, a17, a18, a19, a20, a21, a22, a23, a24⟩ := u'; exact hp _ h')
  · rw [if_neg z, if_pos y] at hp
    exact hp _ h
  · rw [if_neg z, if_neg (by omega)] at hp
    exact hp _ (tm_w4 h e (tm_nb' (by omega) (by rw [tm_r4 h, nI_1])))
def tm_gu (T : tm_T) : tm_T := if T 4 0 = T 8 0 then tm_sd 1 T else if T 4 0 ≤ 0 then T else tm_up T 4 0 (T 4 0 - 1)
theorem tm_goUp {post : St1 → Prop} {u : St1} {t : Nat} {T O : tm_T} (h : tm_R u t T O) (hI : tm_I T) (hp : ∀ u', tm_R u' t (tm_gu T) O → post u') : wpX_goUp post u := by
  obtain ⟨at_, kc, kn, a1, a2, a3, a4, a5, a6, a7, a8, a9, a10, a11, a12, a13, a14, a15, a16, a17, a18, a19, a20, a21, a22, a23, a24⟩ := u
  have h4 := tm_b4 hI.1 0
  have h8 := tm_b8 hI.1 0
  unfold tm_gu at hp
  refine (And.intro (tm_in h) (And.intro (tm_in h) (pk_eq (T 4 0) (T 8 0) (fun z => ?_) (fun z => (And.intro (tm_in h) (pk_le (T 4 0) 0 (fun y => ?_) (fun y => (And.intro (tm_in h) (And.intro (tm_in h) (fun b e => ?_)))) (tm_r4 h) rfl))) (tm_r4 h) (tm_r8 h))))
  · rw [if_pos z] at hp
    exact tm_scrollDown (n := 1) h hI (by decide) (fun u' h' => by obtain ⟨at_, kc, kn, a1, a2, a3, a4, a5, a6, a7, a8, a9, a10, a11, a12, a13, a14, a15, a16, a17, a18, a19, a20, a21, a22, a23, a24⟩ := u'; exact hp _ h')
  · rw [if_neg z, if_pos y] at hp
    exact hp _ h
  · rw [if_neg z, if_neg (by omega)] at hp
    exact hp _ (tm_w4 h e (tm_nb' (n := T 4 0 - 1) (by omega) (by rw [tm_r4 h]; exact pk_sub (b := 1) (by omega))))
/-- the sign itself, at place l + c -/
def tm_ps9 (T : tm_T) (b l c : Nat) : tm_T :=
  if 11 ≤ c then tm_up (tm_put T (l + c) b (T 7 0)) 6 0 (T 11 0) else tm_up (tm_put T (l + c) b (T 7 0)) 5 0 (T 5 0 + 1)
theorem tm_pS99 {post : St1 → Prop} {t b l c : Nat} {T O : tm_T} {at_ kc kn a1 a2 a3 a4 a5 a6 a7 a8 a9 a10 a11 a12 a13 a14 a15 a16 a17 a18 a19 a20 a21 a22 a23 a24} (h : tm_R (at_, kc, kn, a1, a2, a3, a4, a5, a6, a7, a8, a9, a10, a11, a12, a13, a14, a15, a16, a17, a18, a19, a20, a21, a22, a23, a24) t T O) (hB : tm_B T) (hb : b < 128) (hl : l + 12 ≤ 144) (hc : c < 12) (hp : ∀ u', tm_R u' t (tm_ps9 T b l c) O → post u') : wX_putSign_99 post (nI b) (nI (t * 144 + l)) (nI c) at_ kc kn a1 a2 a3 a4 a5 a6 a7 a8 a9 a10 a11 a12 a13 a14 a15 a16 a17 a18 a19 a20 a21 a22 a23 a24 := by
  have ht := tm_lt h
  have h5 := tm_b5 hB 0
  have h7 := tm_b7 hB 0
  have h11 := tm_b11 hB 0
  have ix := tm_ix3 t l c
  unfold tm_ps9 at hp
  refine (And.intro (pk_in _ _ (by omega) ix) (fun b1 e1 => (And.intro (tm_in h) (And.intro (pk_in _ _ (by omega) ix) (fun b2 e2 => ?_)))))
  have h' := tm_put_R h ix (by omega) e1 (tm_nb b hb) e2 (tm_nc' (show T 7 0 < 128 by omega) (tm_r7 h))
  refine pk_le 11 c (fun z => (And.intro (tm_in h) (And.intro (tm_in h) (fun b6 e6 => ?_)))) (fun z => (And.intro (tm_in h) (And.intro (tm_in h) (fun b5 e5 => ?_))))
  · rw [if_pos z] at hp
    exact hp _ (tm_w6 h' e6 (tm_nz' (show T 11 0 < 2 by omega) (tm_r11 h)))
  · rw [if_neg (by omega)] at hp
    exact hp _ (tm_w5 h' e5 (tm_nb' (show T 5 0 + 1 < 128 by omega) (by rw [tm_r5 h, nI_1])))
theorem tm_pS76 {post : St1 → Prop} {t b l q : Nat} {O : tm_T} (hb : b < 128) (hl : l + 12 ≤ 144) (hq : q < 12) : ∀ (n c : Nat) (T : tm_T) (at_ kc kn a1 a2 a3 a4 a5 a6 a7 a8 a9 a10 a11 a12 a13 a14 a15 a16 a17 a18 a19 a20 a21 a22 a23 a24), q + n = c → c < 12 → tm_B T → tm_R (at_, kc, kn, a1, a2, a3, a4, a5, a6, a7, a8, a9, a10, a11, a12, a13, a14, a15, a16, a17, a18, a19, a20, a21, a22, a23, a24) t T O → (∀ u', tm_R u' t (tm_ps9 (tm_cd l 1 n c T) b l q) O → post u') → wX_putSign_76 post (nI b) (nI (t * 144 + l)) (nI q) (n + 1) (nI c) at_ kc kn a1 a2 a3 a4 a5 a6 a7 a8 a9 a10 a11 a12 a13 a14 a15 a16 a17 a18 a19 a20 a21 a22 a23 a24 := by
  intro n
  induction n with
  | zero =>
    intro c T at_ kc kn a1 a2 a3 a4 a5 a6 a7 a8 a9 a10 a11 a12 a13 a14 a15 a16 a17 a18 a19 a20 a21 a22 a23 a24 hc hc12 hB h hp
    exact pk_le c q (fun _ => tm_pS99 h hB hb hl hq hp) (fun z => absurd z (by omega))
  | succ n ih =>
    intro c T at_ kc kn a1 a2 a3 a4 a5 a6 a7 a8 a9 a10 a11 a12 a13 a14 a15 a16 a17 a18 a19 a20 a21 a22 a23 a24 hc hc12 hB h hp
    refine pk_le c q (fun z => absurd z (by omega)) (fun _ => ?_)
    have e : nI c - 1 = nI (c - 1) := pk_sub (b := 1) (by omega)
    rw [e]
    refine tm_copyCell h (tm_B_Cb hB) (by omega) (by omega) ?_
    intro u1 h1
    obtain ⟨at_, kc, kn, a1, a2, a3, a4, a5, a6, a7, a8, a9, a10, a11, a12, a13, a14, a15, a16, a17, a18, a19, a20, a21, a22, a23, a24⟩ := u1
    exact nm_r (sb_m1 (by omega)) (ih (c - 1) _ at_ kc kn a1 a2 a3 a4 a5 a6 a7 a8 a9 a10 a11 a12 a13 a14 a15 a16 a17 a18 a19 a20 a21 a22 a23 a24 (by omega) (by omega) (tm_B_cc hB) h1 hp)
def tm_ps3 (T : tm_T) (b : Nat) : tm_T :=
  if T 10 0 = 0 then tm_ps9 T b (tm_ln T (T 4 0)) (T 5 0) else tm_ps9 (tm_cd (tm_ln T (T 4 0)) 1 (11 - T 5 0) 11 T) b (tm_ln T (T 4 0)) (T 5 0)
theorem tm_pS36 {post : St1 → Prop} {t b : Nat} {T O : tm_T} {at_ kc kn a1 a2 a3 a4 a5 a6 a7 a8 a9 a10 a11 a12 a13 a14 a15 a16 a17 a18 a19 a20 a21 a22 a23 a24} (h : tm_R (at_, kc, kn, a1, a2, a3, a4, a5, a6, a7, a8, a9, a10, a11, a12, a13, a14, a15, a16, a17, a18, a19, a20, a21, a22, a23, a24) t T O) (hB : tm_B T) (hb : b < 128) (hp : ∀ u', tm_R u' t (tm_ps3 T b) O → post u') : wX_putSign_36 post (nI b) at_ kc kn a1 a2 a3 a4 a5 a6 a7 a8 a9 a10 a11 a12 a13 a14 a15 a16 a17 a18 a19 a20 a21 a22 a23 a24 := by
  have h4 := tm_b4 hB 0
  have h5 := tm_b5 hB 0
  have h10 := tm_b10 hB 0
  have hl : tm_ln T (T 4 0) + 12 ≤ 144 := tm_ln_le (tm_B_Sb hB)
  unfold tm_ps3 at hp
  refine (And.intro (tm_in h) (?_))
  rw [tm_r4 h]
  refine tm_lineAt h (tm_B_Sb hB) (by omega) (And.intro (tm_in h) (nm_r (tm_r5 h) (And.intro (tm_in h) (pk_eq (T 10 0) 0 (fun z => ?_) (fun z => ⟨11 - T 5 0 + 1, ?_⟩) (tm_r10 h) rfl))))
  · rw [if_pos z] at hp
    exact tm_pS99 h hB hb hl (by omega) hp
  · rw [if_neg z] at hp
    exact tm_pS76 hb hl (by omega) _ 11 T at_ kc kn a1 a2 a3 a4 a5 a6 a7 a8 a9 a10 a11 a12 a13 a14 a15 a16 a17 a18 a19 a20 a21 a22 a23 a24 (by omega) (by decide) hB h hp
def tm_ps (t : Nat) (T : tm_T) (b : Nat) : tm_T :=
  if T 6 0 = 0 then tm_ps3 T b else tm_ps3 (tm_lf t (tm_up (tm_up T 6 0 0) 5 0 0)) b
theorem tm_B_lf {t : Nat} {T : tm_T} (h : tm_B T) : tm_B (tm_lf t T) := by
  unfold tm_lf
  split
  · exact tm_B_su h
  · split
    · exact h
    · exact tm_B_up h (Nat.zero_le _) (show T 4 0 + 1 ≤ 5 by omega)
theorem tm_putSign {post : St1 → Prop} {u : St1} {t b : Nat} {T O : tm_T} (h : tm_R u t T O) (hI : tm_I T) (hb : b < 128) (hp : ∀ u', tm_R u' t (tm_ps t T b) O → post u') : wpX_putSign post u (nI b) := by
  obtain ⟨at_, kc, kn, a1, a2, a3, a4, a5, a6, a7, a8, a9, a10, a11, a12, a13, a14, a15, a16, a17, a18, a19, a20, a21, a22, a23, a24⟩ := u
  have h6 := tm_b6 hI.1 0
  unfold tm_ps at hp
  refine (And.intro (tm_in h) (pk_eq (T 6 0) 0 (fun z => ?_) (fun z => (And.intro (tm_in h) (fun b6 e6 => (And.intro (tm_in h) (fun b5 e5 => ?_))))) (tm_r6 h) rfl))
  · rw [if_pos z] at hp
    exact tm_pS36 h hI.1 hb hp
  · rw [if_neg z] at hp
    have hI' : tm_I (tm_up (tm_up T 6 0 0) 5 0 0) := tm_I_of hI (tm_B_up (tm_B_up hI.1 (Nat.zero_le _) (Nat.zero_le _)) (Nat.zero_le _) (Nat.zero_le _)) rfl rfl rfl rfl
    refine tm_lineFeed (tm_w5 (v := 0) (tm_w6 (v := 0) h e6 rfl) e5 rfl) hI' ?_
    intro u1 h1
    obtain ⟨at_, kc, kn, a1, a2, a3, a4, a5, a6, a7, a8, a9, a10, a11, a12, a13, a14, a15, a16, a17, a18, a19, a20, a21, a22, a23, a24⟩ := u1
    exact tm_pS36 h1 (tm_B_lf hI'.1) hb hp
def tm_ct (t : Nat) (T : tm_T) (b : Nat) : tm_T :=
  if b = 11 then T else if b = 12 then T
  else if b = 8 then tm_up (tm_up T 6 0 0) 5 0 (T 5 0 - 1)
  else if b = 9 then tm_up (tm_up T 6 0 0) 5 0 (if 12 ≤ (T 5 0 / 4 + 1) * 4 then 11 else (T 5 0 / 4 + 1) * 4)
  else if b = 10 then tm_lf t (tm_up T 6 0 0)
  else tm_up (tm_up T 6 0 0) 5 0 0
theorem tm_control {post : St1 → Prop} {u : St1} {t b : Nat} {T O : tm_T} (h : tm_R u t T O) (hI : tm_I T) (hb : b < 128) (hp : ∀ u', tm_R u' t (tm_ct t T b) O → post u') : wpX_control post u (nI b) := by
  obtain ⟨at_, kc, kn, a1, a2, a3, a4, a5, a6, a7, a8, a9, a10, a11, a12, a13, a14, a15, a16, a17, a18, a19, a20, a21, a22, a23, a24⟩ := u
  have h5 := tm_b5 hI.1 0
  unfold tm_ct at hp
  refine pk_eq b 11 (fun z => ?_) (fun z1 => pk_eq b 12 (fun z => ?_) (fun z2 => (And.intro (tm_in h) (fun b6 e6 => (And.intro (tm_in h) (nm_r (tm_r5 h) (pk_eq b 8 (fun z => ?_) (fun z3 => pk_eq b 9 (fun z => ?_) (fun z4 => pk_eq b 10 (fun z => ?_) (fun z5 => (And.intro (tm_in h) (fun b5 e5 => ?_))))))))))))
  · rw [if_pos z] at hp
    exact hp _ h
  · rw [if_neg z1, if_pos z] at hp
    exact hp _ h
  · rw [if_neg z1, if_neg z2, if_pos z] at hp
    have h' := tm_w6 (v := 0) h e6 rfl
    refine pk_le (T 5 0) 0 (fun y => (And.intro (tm_in h) (fun b5 e5 => ?_))) (fun y => (And.intro (tm_in h) (fun b5 e5 => ?_)))
    · rw [show T 5 0 - 1 = 0 by omega] at hp
      exact hp _ (tm_w5 h' e5 (tm_nb 0 (by decide)))
    · exact hp _ (tm_w5 h' e5 (tm_nb' (n := T 5 0 - 1) (by omega) (pk_sub (b := 1) (by omega))))
  · rw [if_neg z1, if_neg z2, if_neg z3, if_pos z] at hp
    have h' := tm_w6 (v := 0) h e6 rfl
    have ex : (nI (T 5 0) / 4 + 1) * 4 = nI ((T 5 0 / 4 + 1) * 4) := by
      rw [show (4 : Int32) = nI 4 from rfl, pk_div (by omega) (by decide) (by decide), nI_1, pk_mul]
    refine (And.intro (by decide) (nm_r ex (pk_le 12 ((T 5 0 / 4 + 1) * 4) (fun y => (And.intro (tm_in h) (fun b5 e5 => ?_))) (fun y => (And.intro (tm_in h) (fun b5 e5 => ?_))))))
    · rw [if_pos y] at hp
      exact hp _ (tm_w5 h' e5 (tm_nb 11 (by decide)))
    · rw [if_neg (by omega)] at hp
      exact hp _ (tm_w5 h' e5 (tm_nb _ (by omega)))
  · rw [if_neg z1, if_neg z2, if_neg z3, if_neg z4, if_pos z] at hp
    have hI' : tm_I (tm_up T 6 0 0) := tm_I_of hI (tm_B_up hI.1 (Nat.zero_le _) (Nat.zero_le _)) rfl rfl rfl rfl
    exact tm_lineFeed (tm_w6 (v := 0) h e6 rfl) hI' (fun u' h' => by obtain ⟨at_, kc, kn, a1, a2, a3, a4, a5, a6, a7, a8, a9, a10, a11, a12, a13, a14, a15, a16, a17, a18, a19, a20, a21, a22, a23, a24⟩ := u'; exact hp _ h')
  · rw [if_neg z1, if_neg z2, if_neg z3, if_neg z4, if_neg z5] at hp
    exact hp _ (tm_w5 (v := 0) (tm_w6 (v := 0) h e6 rfl) e5 rfl)
abbrev tm_ks (b : Nat) : Prop := b = 56 ∨ b = 68 ∨ b = 69 ∨ b = 77 ∨ b = 99
def tm_ss2 (t : Nat) (T : tm_T) (b : Nat) : tm_T :=
  if b = 56 then tm_up (tm_mt T (T 13 0) (T 14 0)) 7 0 (T 15 0)
  else if b = 68 then tm_lf t T
  else if b = 69 then tm_lf t (tm_up T 5 0 0)
  else if b = 77 then tm_gu T
  else if b = 99 then tm_ca t T else T
def tm_ss (t : Nat) (T : tm_T) (b : Nat) : tm_T :=
  if b = 55 then tm_up (tm_up (tm_up T 13 0 (T 4 0)) 14 0 (T 5 0)) 15 0 (T 7 0)
  else tm_ss2 t (tm_up T 6 0 (if tm_ks b then 0 else T 6 0)) b
theorem tm_sS126 {post : St1 → Prop} {t b v : Nat} {x z : Int32} {T O : tm_T} {at_ kc kn a1 a2 a3 a4 a5 a6 a7 a8 a9 a10 a11 a12 a13 a14 a15 a16 a17 a18 a19 a20 a21 a22 a23 a24} (h : tm_R (at_, kc, kn, a1, a2, a3, a4, a5, a6, a7, a8, a9, a10, a11, a12, a13, a14, a15, a16, a17, a18, a19, a20, a21, a22, a23, a24) t T O) (hI : tm_I T) (hb : b < 128) (hv : v < 2) (hx : x = nI v) (hz : z = at_) (hp : ∀ u', tm_R u' t (tm_ss2 t (tm_up T 6 0 v) b) O → post u') : wX_shortSequence_126 post (nI b) x z at_ kc kn a1 a2 a3 a4 a5 a6 a7 a8 a9 a10 a11 a12 a13 a14 a15 a16 a17 a18 a19 a20 a21 a22 a23 a24 := by
  subst hz
  have hI' : tm_I (tm_up T 6 0 v) := tm_I_of hI (tm_B_up hI.1 (Nat.zero_le _) (show v ≤ 1 by omega)) rfl rfl rfl rfl
  have h13 := tm_b13 hI.1 0
  have h14 := tm_b14 hI.1 0
  have h15 := tm_b15 hI.1 0
  refine (And.intro (tm_in h) (fun b6 e6 => ?_))
  have h' := tm_w6 h e6 (tm_nz' hv hx)
  unfold tm_ss2 at hp
  refine pk_eq b 56 (fun z => (And.intro (tm_in h) (And.intro (tm_in h) (?_)))) (fun z1 => pk_eq b 68 (fun z => ?_) (fun z2 => pk_eq b 69 (fun z => (And.intro (tm_in h) (fun b5 e5 => ?_))) (fun z3 => pk_eq b 77 (fun z => ?_) (fun z4 => pk_eq b 99 (fun z => ?_) (fun z5 => ?_)))))
  · rw [if_pos z] at hp
    rw [tm_r13 h, tm_r14 h]
    refine tm_moveTo h' (by omega) (by omega) ?_
    intro u1 h1
    obtain ⟨at_, kc, kn, a1, a2, a3, a4, a5, a6, a7, a8, a9, a10, a11, a12, a13, a14, a15, a16, a17, a18, a19, a20, a21, a22, a23, a24⟩ := u1
    have q15 := tm_r15 h1
    exact (And.intro (tm_in h1) (And.intro (tm_in h1) (fun b7 e7 => hp _ (tm_w7 h1 e7 (tm_nc' (show T 15 0 < 128 by omega) q15)))))
  · rw [if_neg z1, if_pos z] at hp
    exact tm_lineFeed h' hI' (fun u' h' => by obtain ⟨at_, kc, kn, a1, a2, a3, a4, a5, a6, a7, a8, a9, a10, a11, a12, a13, a14, a15, a16, a17, a18, a19, a20, a21, a22, a23, a24⟩ := u'; exact hp _ h')
  · rw [if_neg z1, if_neg z2, if_pos z] at hp
    have hI'' : tm_I (tm_up (tm_up T 6 0 v) 5 0 0) := tm_I_of hI' (tm_B_up hI'.1 (Nat.zero_le _) (Nat.zero_le _)) rfl rfl rfl rfl
    exact tm_lineFeed (tm_w5 (v := 0) h' e5 rfl) hI'' (fun u' h' => by obtain ⟨at_, kc, kn, a1, a2, a3, a4, a5, a6, a7, a8, a9, a10, a11, a12, a13, a14, a15, a16, a17, a18, a19, a20, a21, a22, a23, a24⟩ := u'; exact hp _ h')
  · rw [if_neg z1, if_neg z2, if_neg z3, if_pos z] at hp
    exact tm_goUp h' hI' (fun u' h' => by obtain ⟨at_, kc, kn, a1, a2, a3, a4, a5, a6, a7, a8, a9, a10, a11, a12, a13, a14, a15, a16, a17, a18, a19, a20, a21, a22, a23, a24⟩ := u'; exact hp _ h')
  · rw [if_neg z1, if_neg z2, if_neg z3, if_neg z4, if_pos z] at hp
    exact tm_clearAll h' (fun i => tm_b3 hI.1 i) (fun u' h' => by obtain ⟨at_, kc, kn, a1, a2, a3, a4, a5, a6, a7, a8, a9, a10, a11, a12, a13, a14, a15, a16, a17, a18, a19, a20, a21, a22, a23, a24⟩ := u'; exact hp _ h')
  · rw [if_neg z1, if_neg z2, if_neg z3, if_neg z4, if_neg z5] at hp
    exact hp _ h'
theorem tm_sS96 {post : St1 → Prop} {t b k : Nat} {T O : tm_T} {at_ kc kn a1 a2 a3 a4 a5 a6 a7 a8 a9 a10 a11 a12 a13 a14 a15 a16 a17 a18 a19 a20 a21 a22 a23 a24} (h : tm_R (at_, kc, kn, a1, a2, a3, a4, a5, a6, a7, a8, a9, a10, a11, a12, a13, a14, a15, a16, a17, a18, a19, a20, a21, a22, a23, a24) t T O) (hI : tm_I T) (hb : b < 128) (hk : k < 2) (hp : ∀ u', tm_R u' t (tm_ss2 t (tm_up T 6 0 (if k = 1 then 0 else T 6 0)) b) O → post u') : wX_shortSequence_96 post (nI b) (nI k) at_ kc kn a1 a2 a3 a4 a5 a6 a7 a8 a9 a10 a11 a12 a13 a14 a15 a16 a17 a18 a19 a20 a21 a22 a23 a24 := by
  have h6 := tm_b6 hI.1 0
  refine (And.intro (tm_in h) (pk_eq (T 6 0) 0 (fun z => ?_) (fun z => pk_eq k 0 (fun y => ?_) (fun y => ?_)) (tm_r6 h) rfl))
  · have e : (if k = 1 then 0 else T 6 0) = 0 := by
      split
      · rfl
      · exact z
    rw [e] at hp
    exact tm_sS126 (v := 0) h hI hb (by decide) rfl rfl hp
  · rw [if_neg (by omega)] at hp
    have e : T 6 0 = 1 := by omega
    rw [e] at hp
    exact tm_sS126 (v := 1) h hI hb (by decide) rfl rfl hp
  · rw [if_pos (by omega)] at hp
    exact tm_sS126 (v := 0) h hI hb (by decide) rfl rfl hp
theorem tm_shortSequence {post : St1 → Prop} {u : St1} {t b : Nat} {T O : tm_T} (h : tm_R u t T O) (hI : tm_I T) (hb : b < 128) (hp : ∀ u', tm_R u' t (tm_ss t T b) O → post u') : wpX_shortSequence post u (nI b) := by
  obtain ⟨at_, kc, kn, a1, a2, a3, a4, a5, a6, a7, a8, a9, a10, a11, a12, a13, a14, a15, a16, a17, a18, a19, a20, a21, a22, a23, a24⟩ := u
  have h4 := tm_b4 hI.1 0
  have h5 := tm_b5 hI.1 0
  have h7 := tm_b7 hI.1 0
  unfold tm_ss at hp
  have K : b ≠ 55 → tm_ks b → wX_shortSequence_91 post (nI b) at_ kc kn a1 a2 a3 a4 a5 a6 a7 a8 a9 a10 a11 a12 a13 a14 a15 a16 a17 a18 a19 a20 a21 a22 a23 a24 := by
    intro y1 y2
    rw [if_neg y1, if_pos y2] at hp
    exact tm_sS96 (k := 1) h hI hb (by decide) hp
  refine pk_eq b 55 (fun z => (And.intro (tm_in h) (And.intro (tm_in h) (fun c1 e1 => (And.intro (tm_in h) (And.intro (tm_in h) (fun c2 e2 => (And.intro (tm_in h) (And.intro (tm_in h) (fun c3 e3 => ?_)))))))))) (fun z0 => pk_eq b 56 (fun z => K z0 (by unfold tm_ks; omega)) (fun z1 => pk_eq b 68 (fun z => K z0 (by unfold tm_ks; omega)) (fun z2 => pk_eq b 69 (fun z => K z0 (by unfold tm_ks; omega)) (fun z3 => pk_eq b 77 (fun z => K z0 (by unfold tm_ks; omega)) (fun z4 => pk_eq b 99 (fun z => K z0 (by unfold tm_ks; omega)) (fun z5 => ?_))))))
  · rw [if_pos z] at hp
    exact hp _ (tm_w15 (tm_w14 (tm_w13 h e1 (tm_nc' (show T 4 0 < 128 by omega) (tm_r4 h))) e2 (tm_nc' (show T 5 0 < 128 by omega) (tm_r5 h))) e3 (tm_nc' (show T 7 0 < 128 by omega) (tm_r7 h)))
  · rw [if_neg z0, if_neg (by unfold tm_ks; omega)] at hp
    exact tm_sS96 (k := 0) h hI hb (by decide) hp
/-! a byte -/
def tm_me (s b : Nat) : Nat :=
  if b = 27 then 3 else if s = 0 then (if b < 32 then (if b < 8 then 0 else if 13 < b then 0 else 2) else if 127 ≤ b then 0 else 1)
  else if s = 1 then (if b = 91 then 4 else 5)
  else if 48 ≤ b ∧ b ≤ 57 then 7 else if b = 59 then 8 else if 64 ≤ b ∧ b < 127 then 9 else if b = 63 ∧ s = 2 then 6 else 10
theorem tm_meaning {post : Int32 → Prop} {u : St1} {s b : Nat} (hs : s < 4) (hb : b < 128) (hp : post (nI (tm_me s b))) : wpX_meaning post u (nI s) (nI b) := by
  obtain ⟨at_, kc, kn, a1, a2, a3, a4, a5, a6, a7, a8, a9, a10, a11, a12, a13, a14, a15, a16, a17, a18, a19, a20, a21, a22, a23, a24⟩ := u
  unfold tm_me at hp
  have L : ¬ s = 0 → ¬ s = 1 → ¬ b = 27 → ¬ (48 ≤ b ∧ b ≤ 57) → wX_meaning_76 post (nI s) (nI b) at_ kc kn a1 a2 a3 a4 a5 a6 a7 a8 a9 a10 a11 a12 a13 a14 a15 a16 a17 a18 a19 a20 a21 a22 a23 a24 := by
    intro y1 y2 y3 y4
    rw [if_neg y3, if_neg y1, if_neg y2, if_neg y4] at hp
    have E : ¬ b = 59 → ¬ (64 ≤ b ∧ b < 127) → wX_meaning_100 post (nI s) (nI b) at_ kc kn a1 a2 a3 a4 a5 a6 a7 a8 a9 a10 a11 a12 a13 a14 a15 a16 a17 a18 a19 a20 a21 a22 a23 a24 := by
      intro w1 w2
      rw [if_neg w1, if_neg w2] at hp
      refine pk_eq b 63 (fun z => pk_eq s 2 (fun z' => ?_) (fun z' => ?_)) (fun z => ?_)
      · rw [if_pos ⟨z, z'⟩] at hp
        exact hp
      · rw [if_neg (fun q => z' q.2)] at hp
        exact hp
      · rw [if_neg (fun q => z q.1)] at hp
        exact hp
    refine pk_eq b 59 (fun z => ?_) (fun z1 => pk_lt b 64 (fun z => E z1 (by omega)) (fun z2 => pk_le 127 b (fun z => E z1 (by omega)) (fun z => ?_)))
    · rw [if_pos z] at hp
      exact hp
    · rw [if_neg z1, if_pos ⟨z2, z⟩] at hp
      exact hp
  refine pk_eq b 27 (fun z => ?_) (fun z1 => pk_eq s 0 (fun z => ?_) (fun z2 => pk_eq s 1 (fun z => ?_) (fun z3 => pk_lt b 48 (fun z => L z2 z3 z1 (by omega)) (fun z4 => pk_lt 57 b (fun z => L z2 z3 z1 (by omega)) (fun z => ?_)))))
  · rw [if_pos z] at hp
    exact hp
  · rw [if_neg z1, if_pos z] at hp
    refine pk_lt b 32 (fun y => ?_) (fun y => pk_le 127 b (fun w => ?_) (fun w => ?_))
    · rw [if_pos y] at hp
      refine pk_lt b 8 (fun w => ?_) (fun w => pk_lt 13 b (fun q => ?_) (fun q => ?_))
      · rw [if_pos w] at hp
        exact hp
      · rw [if_neg (by omega), if_pos q] at hp
        exact hp
      · rw [if_neg (by omega), if_neg (by omega)] at hp
        exact hp
    · rw [if_neg (by omega), if_pos w] at hp
      exact pk_lt b 8 (fun w => absurd w (by omega)) (fun w => pk_lt 13 b (fun q => hp) (fun q => absurd q (by omega)))
    · rw [if_neg (by omega), if_neg (by omega)] at hp
      exact hp
  · rw [if_neg z1, if_neg z2, if_pos z] at hp
    refine pk_eq b 91 (fun y => ?_) (fun y => ?_)
    · rw [if_pos y] at hp
      exact hp
    · rw [if_neg y] at hp
      exact hp
  · rw [if_neg z1, if_neg z2, if_neg z3, if_pos ⟨z4, z⟩] at hp
    exact hp
def tm_ns (m : Nat) : Nat := if m = 3 then 1 else if m = 4 then 2 else if m < 6 then 0 else if 8 < m then 0 else 3
theorem tm_nextState {post : Int32 → Prop} {m : Nat} (hm : m < 11) (hp : post (nI (tm_ns m))) : wpX_nextState post () (nI m) := by
  unfold tm_ns at hp
  refine pk_eq m 3 (fun z => ?_) (fun z1 => pk_eq m 4 (fun z => ?_) (fun z2 => pk_lt m 6 (fun z => ?_) (fun z3 => pk_lt 8 m (fun z => ?_) (fun z => ?_))))
  · rw [if_pos z] at hp
    exact hp
  · rw [if_neg z1, if_pos z] at hp
    exact hp
  · rw [if_neg z1, if_neg z2, if_pos z] at hp
    exact hp
  · rw [if_neg z1, if_neg z2, if_neg (by omega), if_pos z] at hp
    exact hp
  · rw [if_neg z1, if_neg z2, if_neg (by omega), if_neg (by omega)] at hp
    exact hp
/-- a byte of meaning m; the state is set already -/
def tm_do (t : Nat) (T : tm_T) (m b : Nat) : tm_T :=
  if m = 1 then tm_ps t T b else if m = 2 then tm_ct t T b else if m = 4 then tm_li T else if m = 6 then tm_up T 21 0 1
  else if m = 7 then tm_ad T (b - 48) else if m = 8 then tm_nn T else if m = 5 then tm_ss t T b else if m = 9 then tm_lb t T b else T
def tm_rd (t : Nat) (T : tm_T) (b : Nat) : tm_T := tm_no (tm_do t (tm_up T 20 0 (tm_ns (tm_me (T 20 0) b))) (tm_me (T 20 0) b) b)
theorem tm_me_lt (s b : Nat) : tm_me s b < 11 := by
  unfold tm_me
  repeat' split
  all_goals decide
theorem tm_me_27 {s b : Nat} (hs : s < 4) (h : 6 ≤ tm_me s b) : 2 ≤ s := by
  unfold tm_me at h
  rcases Nat.lt_or_ge s 2 with z | z
  · exfalso
    have z' : s = 0 ∨ s = 1 := by omega
    rcases z' with z' | z'
    · rw [if_pos z'] at h
      repeat' split at h
      all_goals omega
    · rw [if_neg (show ¬ s = 0 by omega), if_pos z'] at h
      repeat' split at h
      all_goals omega
  · exact z
theorem tm_me_7 {s b : Nat} (h : tm_me s b = 7) : 48 ≤ b ∧ b ≤ 57 := by
  unfold tm_me at h
  repeat' split at h
  all_goals first | omega | (exfalso; revert h; decide)
theorem tm_ns_le (m : Nat) : tm_ns m ≤ 3 := by
  unfold tm_ns
  repeat' split
  all_goals decide
/-- bounds, regions, and a list's numbers count while a list is read -/
def tm_J (T : tm_T) : Prop := tm_I T ∧ (2 ≤ T 20 0 → T 27 0 = 1)
theorem tm_read {post : St1 → Prop} {u : St1} {t b : Nat} {T O : tm_T} (h : tm_Sl u t T) (ho : tm_Sl u (1 - t) O) (ht : t < 2) (hJ : tm_J T) (hb : b < 128) (hp : ∀ u', tm_R u' t (tm_rd t T b) O → post u') : wpX_read post u (nI t) (nI b) := by
  obtain ⟨at_, kc, kn, a1, a2, a3, a4, a5, a6, a7, a8, a9, a10, a11, a12, a13, a14, a15, a16, a17, a18, a19, a20, a21, a22, a23, a24⟩ := u
  have h0 : tm_R ((nI t), kc, kn, a1, a2, a3, a4, a5, a6, a7, a8, a9, a10, a11, a12, a13, a14, a15, a16, a17, a18, a19, a20, a21, a22, a23, a24) t T O := (And.intro (rfl) (And.intro (ht) (And.intro (h) (ho))))
  have h20 := tm_b20 hJ.1.1 0
  have hm := tm_me_lt (T 20 0) b
  have hm27 : 6 ≤ tm_me (T 20 0) b → T 27 0 = 1 := fun z => hJ.2 (tm_me_27 (by omega) z)
  have hm7 : tm_me (T 20 0) b = 7 → 48 ≤ b ∧ b ≤ 57 := tm_me_7
  have hns := tm_ns_le (tm_me (T 20 0) b)
  have hI' : tm_I (tm_up T 20 0 (tm_ns (tm_me (T 20 0) b))) := tm_I_of hJ.1 (tm_B_up hJ.1.1 (Nat.zero_le _) hns) rfl rfl rfl rfl
  have hp' : ∀ u', tm_R u' t (tm_do t (tm_up T 20 0 (tm_ns (tm_me (T 20 0) b))) (tm_me (T 20 0) b) b) O → post u' := by
    intro u' g
    obtain ⟨at_, kc, kn, a1, a2, a3, a4, a5, a6, a7, a8, a9, a10, a11, a12, a13, a14, a15, a16, a17, a18, a19, a20, a21, a22, a23, a24⟩ := u'
    exact hp _ (tm_R_no g)
  refine (And.intro (pk_in t 2 ht) (nm_r (tm_r20 h0) (tm_meaning (by omega) hb (tm_nextState hm (And.intro (pk_in t 2 ht) (fun b20 e20 => ?_))))))
  have h' := tm_w20 h0 e20 (tm_nb _ (by omega))
  unfold tm_do at hp'
  refine pk_eq (tm_me (T 20 0) b) 1 (fun z => ?_) (fun z1 => pk_eq (tm_me (T 20 0) b) 2 (fun z => ?_) (fun z2 => pk_eq (tm_me (T 20 0) b) 4 (fun z => ?_) (fun z3 => pk_eq (tm_me (T 20 0) b) 6 (fun z => ?_) (fun z4 => pk_eq (tm_me (T 20 0) b) 7 (fun z => ?_) (fun z5 => pk_eq (tm_me (T 20 0) b) 8 (fun z => ?_) (fun z6 => pk_eq (tm_me (T 20 0) b) 5 (fun z => ?_) (fun z7 => pk_eq (tm_me (T 20 0) b) 9 (fun z => ?_) (fun z8 => ?_))))))))
  · rw [if_pos z] at hp'
    exact tm_putSign h' hI' hb (fun u' h' => by obtain ⟨at_, kc, kn, a1, a2, a3, a4, a5, a6, a7, a8, a9, a10, a11, a12, a13, a14, a15, a16, a17, a18, a19, a20, a21, a22, a23, a24⟩ := u'; exact hp' _ h')
  · rw [if_neg z1, if_pos z] at hp'
    exact tm_control h' hI' hb (fun u' h' => by obtain ⟨at_, kc, kn, a1, a2, a3, a4, a5, a6, a7, a8, a9, a10, a11, a12, a13, a14, a15, a16, a17, a18, a19, a20, a21, a22, a23, a24⟩ := u'; exact hp' _ h')
  · rw [if_neg z1, if_neg z2, if_pos z] at hp'
    have ix : nI t * 4 = nI (t * 4 + 0) := by
      rw [show (4 : Int32) = nI 4 from rfl, pk_mul]
      rfl
    exact (And.intro (pk_in t 2 ht) (fun c1 e1 => (And.intro (pk_in t 2 ht) (fun c2 e2 => (And.intro (pk_in _ _ (by omega) ix) (fun c3 e3 => hp' _ (tm_wli h' e1 e2 ix e3)))))))
  · rw [if_neg z1, if_neg z2, if_neg z3, if_pos z] at hp'
    exact (And.intro (pk_in t 2 ht) (fun c1 e1 => hp' _ (tm_w21 h' e1 rfl)))
  · rw [if_neg z1, if_neg z2, if_neg z3, if_neg z4, if_pos z] at hp'
    have hd := hm7 z
    have ix : nI b - 48 = nI (b - 48) := pk_sub (b := 48) hd.1
    rw [ix]
    exact tm_addDigit h' (hm27 (by omega)) hI'.1 (by omega) (fun u' h' => by obtain ⟨at_, kc, kn, a1, a2, a3, a4, a5, a6, a7, a8, a9, a10, a11, a12, a13, a14, a15, a16, a17, a18, a19, a20, a21, a22, a23, a24⟩ := u'; exact hp' _ h')
  · rw [if_neg z1, if_neg z2, if_neg z3, if_neg z4, if_neg z5, if_pos z] at hp'
    exact tm_nextNumber h' (hm27 (by omega)) hI'.1 (fun u' h' => by obtain ⟨at_, kc, kn, a1, a2, a3, a4, a5, a6, a7, a8, a9, a10, a11, a12, a13, a14, a15, a16, a17, a18, a19, a20, a21, a22, a23, a24⟩ := u'; exact hp' _ h')
  · rw [if_neg z1, if_neg z2, if_neg z3, if_neg z4, if_neg z5, if_neg z6, if_pos z] at hp'
    exact tm_shortSequence h' hI' hb (fun u' h' => by obtain ⟨at_, kc, kn, a1, a2, a3, a4, a5, a6, a7, a8, a9, a10, a11, a12, a13, a14, a15, a16, a17, a18, a19, a20, a21, a22, a23, a24⟩ := u'; exact hp' _ h')
  · rw [if_neg z1, if_neg z2, if_neg z3, if_neg z4, if_neg z5, if_neg z6, if_neg z7, if_pos z] at hp'
    exact tm_lastByte h' (hm27 (by omega)) hI' hb (fun u' h' => by obtain ⟨at_, kc, kn, a1, a2, a3, a4, a5, a6, a7, a8, a9, a10, a11, a12, a13, a14, a15, a16, a17, a18, a19, a20, a21, a22, a23, a24⟩ := u'; exact hp' _ h')
  · rw [if_neg z1, if_neg z2, if_neg z3, if_neg z4, if_neg z5, if_neg z6, if_neg z7, if_neg z8] at hp'
    exact hp' _ h'
end
section
/-! the invariants hold on -/
theorem tm_I_up {T : tm_T} {f i v : Nat} (h : tm_I T) (h1 : tm_lw f ≤ v) (h2 : v ≤ tm_hg f) (h8 : f ≠ 8) (h9 : f ≠ 9) (h18 : f ≠ 18) (h19 : f ≠ 19) : tm_I (tm_up T f i v) :=
  tm_I_of h (tm_B_up h.1 h1 h2) (tm_upF _ h8.symm) (tm_upF _ h9.symm) (tm_upF _ h18.symm) (tm_upF _ h19.symm)
theorem tm_I_put {T : tm_T} {i s y : Nat} (h : tm_I T) (h1 : 32 ≤ s) (h2 : s ≤ 126) (h3 : y ≤ 7) : tm_I (tm_put T i s y) := tm_I_of h (tm_B_put h.1 h1 h2 h3) rfl rfl rfl rfl
theorem tm_I_ec {T : tm_T} {r f e : Nat} (h : tm_I T) : tm_I (tm_ec T r f e) := tm_I_of h (tm_B_ec h.1) (tm_ec_o (by decide) (by decide)) (tm_ec_o (by decide) (by decide)) (tm_ec_o (by decide) (by decide)) (tm_ec_o (by decide) (by decide))
theorem tm_I_er {T : tm_T} {f e : Nat} (h : tm_I T) : tm_I (tm_er T f e) := tm_I_of h (tm_B_er h.1) (tm_er_o (by decide) (by decide)) (tm_er_o (by decide) (by decide)) (tm_er_o (by decide) (by decide)) (tm_er_o (by decide) (by decide))
theorem tm_I_cu {l k n c : Nat} {T : tm_T} (h : tm_I T) : tm_I (tm_cu l k n c T) := tm_I_of h (tm_B_cu h.1) (tm_cu_o (by decide) (by decide)) (tm_cu_o (by decide) (by decide)) (tm_cu_o (by decide) (by decide)) (tm_cu_o (by decide) (by decide))
theorem tm_I_cd {l k n c : Nat} {T : tm_T} (h : tm_I T) : tm_I (tm_cd l k n c T) := tm_I_of h (tm_B_cd h.1) (tm_cd_o (by decide) (by decide)) (tm_cd_o (by decide) (by decide)) (tm_cd_o (by decide) (by decide)) (tm_cd_o (by decide) (by decide))
theorem tm_I_ti {b f to n : Nat} {T : tm_T} (h : tm_I T) : tm_I (tm_ti b f to n T) := tm_I_of h (tm_B_ti h.1) (tm_ti_o (by decide) (by decide) (by decide)) (tm_ti_o (by decide) (by decide) (by decide)) (tm_ti_o (by decide) (by decide) (by decide)) (tm_ti_o (by decide) (by decide) (by decide))
theorem tm_I_su {t n : Nat} {T : tm_T} (h : tm_I T) : tm_I (tm_su t n T) := by
  induction n generalizing T with
  | zero => exact h
  | succ n ih => exact ih (tm_I_su1 h)
theorem tm_I_sd {n : Nat} {T : tm_T} (h : tm_I T) : tm_I (tm_sd n T) := by
  induction n generalizing T with
  | zero => exact h
  | succ n ih => exact ih (tm_I_td h)
theorem tm_I_mt {T : tm_T} {r c : Nat} (h : tm_I T) (hr : r ≤ 5) (hc : c ≤ 11) : tm_I (tm_mt T r c) :=
  tm_I_up (tm_I_up h (Nat.zero_le _) hr (by decide) (by decide) (by decide) (by decide)) (Nat.zero_le _) hc (by decide) (by decide) (by decide) (by decide)
theorem tm_I_89 {T : tm_T} {a b : Nat} (h : tm_B T) (ha : a ≤ b) (hb : b ≤ 5) (h18 : T 18 0 ≤ T 19 0) : tm_I (tm_up (tm_up T 8 0 a) 9 0 b) :=
  ⟨tm_B_up (tm_B_up h (Nat.zero_le _) (show a ≤ 5 by omega)) (Nat.zero_le _) hb, ha, h18⟩
theorem tm_I_wr {T : tm_T} (h : tm_I T) : tm_I (tm_wr T) := tm_I_89 h.1 (by decide) (by decide) h.2.2
theorem tm_mx_le5 {a b c m : Nat} (h : a ≤ m) (hc : c ≤ m) : tm_mx a b c ≤ m := by
  unfold tm_mx
  split <;> omega
theorem tm_mn_le5 {a b m : Nat} (h : b ≤ m) : tm_mn a b ≤ m := Nat.le_trans (tm_mn_l a b) h
theorem tm_I_tr {T : tm_T} {b n : Nat} (h : tm_I T) : tm_I (tm_tr T b n) := by
  have h4 := tm_b4 h.1 0
  have h5 := tm_b5 h.1 0
  have h8 := tm_b8 h.1 0
  have h9 := tm_b9 h.1 0
  unfold tm_tr
  split
  · refine tm_I_mt h (tm_mx_le5 h4 ?_) h5
    split <;> omega
  split
  · refine tm_I_mt h (tm_mn_le5 ?_) h5
    split <;> omega
  split
  · exact tm_I_mt h h4 (tm_mn_le5 (by decide))
  split
  · exact tm_I_mt h h4 (tm_mx_le5 h5 (by decide))
  split
  · exact tm_I_mt h h4 (tm_mn_le5 (by decide))
  split
  · exact tm_I_mt h (tm_mn_le5 (by decide)) h5
  split
  · refine tm_I_mt h (tm_mn_le5 (by decide)) ?_
    split
    · omega
    · exact tm_mn_le5 (by decide)
  · exact tm_I_mt h h4 h5
theorem tm_I_rs {T : tm_T} {b p n : Nat} (h : tm_I T) : tm_I (tm_rs T b p n) := by
  unfold tm_rs tm_rs3 tm_rs2
  repeat' split
  all_goals first | exact h | exact tm_I_ec h | exact tm_I_er (tm_I_ec h) | exact tm_I_er (tm_I_er (tm_I_ec h))
theorem tm_I_sc {T : tm_T} {b n : Nat} (h : tm_I T) : tm_I (tm_sc T b n) := by
  unfold tm_sc
  split
  · exact tm_I_ec (tm_I_cu h)
  · exact tm_I_ec (tm_I_cd h)
theorem tm_I_sh {T : tm_T} {b n : Nat} (h : tm_I T) : tm_I (tm_sh T b n) := by
  unfold tm_sh
  repeat' split
  all_goals first | exact h | exact tm_I_ti (tm_I_up h (Nat.zero_le _) (Nat.zero_le _) (by decide) (by decide) (by decide) (by decide))
theorem tm_I_sr {T : tm_T} {p : Nat} (h : tm_I T) : tm_I (tm_sr T p) := by
  unfold tm_sr
  generalize (if tm_nm T 1 = 0 then 6 else tm_nm T 1) = q
  generalize (if p = 0 then 1 else p) = f
  split
  · exact h
  split
  · exact h
  · exact tm_I_mt (tm_I_89 h.1 (by omega) (by omega) h.2.2) (by decide) (by decide)
theorem tm_I_cp {T : tm_T} (h : tm_I T) : tm_I (tm_cp T) := tm_I_of h (tm_B_cpL h.1) (tm_cpL_o (by decide)) (tm_cpL_o (by decide)) (tm_cpL_o (by decide)) (tm_cpL_o (by decide))
theorem tm_I_sw {T : tm_T} {b : Nat} (h : tm_I T) : tm_I (tm_sw T b) := by
  have h4 := tm_b4 h.1 0
  have h5 := tm_b5 h.1 0
  have h8 := tm_b8 h.1 0
  have h9 := tm_b9 h.1 0
  have h16 := tm_b16 h.1 0
  have h17 := tm_b17 h.1 0
  have h19 := tm_b19 h.1 0
  unfold tm_sw
  split
  · exact h
  split
  · refine tm_I_89 (tm_I_mt ?_ h16 h17).1 h.2.2 h19 h.2.2
    exact tm_I_up (tm_I_up h (Nat.zero_le _) (Nat.zero_le _) (by decide) (by decide) (by decide) (by decide)) (Nat.zero_le _) (Nat.zero_le _) (by decide) (by decide) (by decide) (by decide)
  · refine tm_I_wr (tm_I_mt (tm_I_er ?_) (by decide) (by decide))
    refine ⟨?_, h.2.1, h.2.1⟩
    exact tm_B_up (tm_B_up (tm_B_up (tm_B_up (tm_B_up (tm_B_up h.1 (Nat.zero_le _) (Nat.zero_le _)) (Nat.zero_le _) h4) (Nat.zero_le _) h5) (Nat.zero_le _) h8) (Nat.zero_le _) h9) (Nat.zero_le _) (by decide)
theorem tm_I_sm {T : tm_T} {b : Nat} (h : tm_I T) (hb : b ≤ 1) : tm_I (tm_sm T b) := by
  unfold tm_sm
  split
  · exact tm_I_up h (Nat.zero_le _) hb (by decide) (by decide) (by decide) (by decide)
  split
  · exact tm_I_sw h
  · exact h
theorem tm_I_lb2 {t : Nat} {T : tm_T} {b p n : Nat} (h : tm_I T) : tm_I (tm_lb2 t T b p n) := by
  unfold tm_lb2
  repeat' split
  all_goals first | exact tm_I_tr h | exact tm_I_rs h | exact tm_I_sc h | exact tm_I_sh h | exact tm_I_su h | exact tm_I_sd h | exact tm_I_sr h
theorem tm_I_lb {t : Nat} {T : tm_T} {b : Nat} (h : tm_I T) : tm_I (tm_lb t T b) := by
  have h10 := tm_b10 h.1 0
  unfold tm_lb
  split
  · split
    · exact tm_I_cp h
    split
    · refine tm_I_up h (Nat.zero_le _) (show _ ≤ 1 from ?_) (by decide) (by decide) (by decide) (by decide)
      split <;> omega
    split
    · refine tm_I_up h (Nat.zero_le _) (show _ ≤ 1 from ?_) (by decide) (by decide) (by decide) (by decide)
      split <;> omega
    split
    · exact tm_I_lb2 (tm_I_up h (Nat.zero_le _) (Nat.zero_le _) (by decide) (by decide) (by decide) (by decide))
    · exact h
  · split
    · exact tm_I_sm h (by decide)
    split
    · exact tm_I_sm h (by decide)
    · exact h
theorem tm_I_lf {t : Nat} {T : tm_T} (h : tm_I T) : tm_I (tm_lf t T) := by
  have h4 := tm_b4 h.1 0
  unfold tm_lf
  split
  · exact tm_I_su h
  split
  · exact h
  · exact tm_I_up h (Nat.zero_le _) (show T 4 0 + 1 ≤ 5 by omega) (by decide) (by decide) (by decide) (by decide)
theorem tm_I_gu {T : tm_T} (h : tm_I T) : tm_I (tm_gu T) := by
  have h4 := tm_b4 h.1 0
  unfold tm_gu
  split
  · exact tm_I_sd h
  split
  · exact h
  · exact tm_I_up h (Nat.zero_le _) (show T 4 0 - 1 ≤ 5 by omega) (by decide) (by decide) (by decide) (by decide)
theorem tm_I_ps9 {T : tm_T} {b l c : Nat} (h : tm_I T) (hb : 32 ≤ b) (hb2 : b ≤ 126) (hc : c < 11 → T 5 0 < 11) : tm_I (tm_ps9 T b l c) := by
  have h7 := tm_b7 h.1 0
  have h11 := tm_b11 h.1 0
  have hi : tm_I (tm_put T (l + c) b (T 7 0)) := tm_I_put h hb hb2 h7
  unfold tm_ps9
  split
  · exact tm_I_up hi (Nat.zero_le _) h11 (by decide) (by decide) (by decide) (by decide)
  · have := hc (by omega)
    exact tm_I_up hi (Nat.zero_le _) (show T 5 0 + 1 ≤ 11 by omega) (by decide) (by decide) (by decide) (by decide)
theorem tm_I_ps3 {T : tm_T} {b : Nat} (h : tm_I T) (hb : 32 ≤ b) (hb2 : b ≤ 126) : tm_I (tm_ps3 T b) := by
  unfold tm_ps3
  split
  · exact tm_I_ps9 h hb hb2 (fun z => z)
  · refine tm_I_ps9 (tm_I_cd h) hb hb2 (fun z => ?_)
    rw [tm_cd_o (by decide) (by decide)]
    exact z
theorem tm_I_ps {t : Nat} {T : tm_T} {b : Nat} (h : tm_I T) (hb : 32 ≤ b) (hb2 : b ≤ 126) : tm_I (tm_ps t T b) := by
  unfold tm_ps
  split
  · exact tm_I_ps3 h hb hb2
  · exact tm_I_ps3 (tm_I_lf (tm_I_up (tm_I_up h (Nat.zero_le _) (Nat.zero_le _) (by decide) (by decide) (by decide) (by decide)) (Nat.zero_le _) (Nat.zero_le _) (by decide) (by decide) (by decide) (by decide))) hb hb2
theorem tm_I_ct {t : Nat} {T : tm_T} {b : Nat} (h : tm_I T) : tm_I (tm_ct t T b) := by
  have h5 := tm_b5 h.1 0
  have h6 : tm_I (tm_up T 6 0 0) := tm_I_up h (Nat.zero_le _) (Nat.zero_le _) (by decide) (by decide) (by decide) (by decide)
  unfold tm_ct
  split
  · exact h
  split
  · exact h
  split
  · exact tm_I_up h6 (Nat.zero_le _) (show T 5 0 - 1 ≤ 11 by omega) (by decide) (by decide) (by decide) (by decide)
  split
  · refine tm_I_up h6 (Nat.zero_le _) (show _ ≤ 11 from ?_) (by decide) (by decide) (by decide) (by decide)
    split <;> omega
  split
  · exact tm_I_lf h6
  · exact tm_I_up h6 (Nat.zero_le _) (Nat.zero_le _) (by decide) (by decide) (by decide) (by decide)
/-- the numbers of a fresh terminal -/
theorem tm_wr_o {T : tm_T} {g j : Nat} (h8 : g ≠ 8) (h9 : g ≠ 9) : tm_wr T g j = T g j := (tm_upF _ h9).trans (tm_upF _ h8)
theorem tm_mt_o {T : tm_T} {r c g j : Nat} (h4 : g ≠ 4) (h5 : g ≠ 5) : tm_mt T r c g j = T g j := (tm_upF _ h5).trans (tm_upF _ h4)
theorem tm_ca1_o {T : tm_T} {g j : Nat} (h1 : g ≠ 1) (h2 : g ≠ 2) (h3 : g ≠ 3) (h12 : g ≠ 12) : tm_ca1 T g j = T g j := by
  unfold tm_ca1
  rw [tm_er_o h1 h2, tm_upF _ h12, tm_sl_o h3, tm_sl_o h3]
theorem tm_ca2_u {T : tm_T} {g j : Nat} (h4 : g ≠ 4) (h5 : g ≠ 5) (h8 : g ≠ 8) (h9 : g ≠ 9) : tm_ca2 T g j = tm_er (tm_up (tm_ca1 T) 12 0 0) 0 6 g j := by
  unfold tm_ca2
  rw [tm_wr_o h8 h9, tm_mt_o h4 h5]
theorem tm_ca3_u {T : tm_T} {g j : Nat} (h : g ∉ [6, 7, 10, 11, 13, 14, 15, 20]) : tm_ca3 T g j = tm_ca2 T g j := by
  simp only [List.mem_cons, List.not_mem_nil, or_false, not_or] at h
  unfold tm_ca3
  rw [tm_upF _ h.2.2.2.2.2.2.2, tm_upF _ h.2.2.2.2.2.2.1, tm_upF _ h.2.2.2.2.2.1, tm_upF _ h.2.2.2.2.1, tm_upF _ h.2.2.2.1, tm_upF _ h.2.2.1, tm_upF _ h.2.1, tm_upF _ h.1]
theorem tm_ca3_o {T : tm_T} {g j : Nat} (h : g ∉ [6, 7, 10, 11, 13, 14, 15, 20]) (h' : g ∉ [1, 2, 3, 4, 5, 8, 9, 12]) : tm_ca3 T g j = T g j := by
  simp only [List.mem_cons, List.not_mem_nil, or_false, not_or] at h'
  rw [tm_ca3_u h, tm_ca2_u h'.2.2.2.1 h'.2.2.2.2.1 h'.2.2.2.2.2.1 h'.2.2.2.2.2.2.1, tm_er_o h'.1 h'.2.1, tm_upF _ h'.2.2.2.2.2.2.2, tm_ca1_o h'.1 h'.2.1 h'.2.2.1 h'.2.2.2.2.2.2.2]
theorem tm_sl_B {k n r : Nat} {T : tm_T} (hk : k ≤ 1) (hr : r + n ≤ 6) (h : tm_B T) : tm_B (tm_sl k n r T) := by
  induction n generalizing r T with
  | zero => exact h
  | succ n ih => exact ih (by omega) (tm_B_up h (Nat.zero_le _) (show k * 6 + r ≤ 11 by omega))
theorem tm_I_ca3 {T : tm_T} (h : tm_B T) (h18 : T 18 0 ≤ T 19 0) : tm_I (tm_ca3 T) := by
  have hB0 : tm_B (tm_sl 1 6 0 (tm_sl 0 6 0 T)) := tm_sl_B (by decide) (by decide) (tm_sl_B (by decide) (by decide) h)
  have hB1 : tm_B (tm_ca1 T) := by
    unfold tm_ca1
    exact tm_B_er (tm_B_up hB0 (Nat.zero_le _) (by decide))
  have hB2 : tm_B (tm_mt (tm_er (tm_up (tm_ca1 T) 12 0 0) 0 6) 0 0) := by
    unfold tm_mt
    exact tm_B_up (tm_B_up (tm_B_er (tm_B_up hB1 (Nat.zero_le _) (Nat.zero_le _))) (Nat.zero_le _) (Nat.zero_le _)) (Nat.zero_le _) (Nat.zero_le _)
  have e18 : tm_mt (tm_er (tm_up (tm_ca1 T) 12 0 0) 0 6) 0 0 18 0 = T 18 0 := by
    rw [tm_mt_o (by decide) (by decide), tm_er_o (by decide) (by decide), tm_upF _ (by decide), tm_ca1_o (by decide) (by decide) (by decide) (by decide)]
  have e19 : tm_mt (tm_er (tm_up (tm_ca1 T) 12 0 0) 0 6) 0 0 19 0 = T 19 0 := by
    rw [tm_mt_o (by decide) (by decide), tm_er_o (by decide) (by decide), tm_upF _ (by decide), tm_ca1_o (by decide) (by decide) (by decide) (by decide)]
  have hI2 : tm_I (tm_ca2 T) := by
    unfold tm_ca2 tm_wr
    exact tm_I_89 hB2 (by decide) (by decide) (by rw [e18, e19]; exact h18)
  refine tm_I_of hI2 ?_ (tm_ca3_u (by decide)) (tm_ca3_u (by decide)) (tm_ca3_u (by decide)) (tm_ca3_u (by decide))
  unfold tm_ca3
  exact tm_B_up (tm_B_up (tm_B_up (tm_B_up (tm_B_up (tm_B_up (tm_B_up (tm_B_up hI2.1 (Nat.zero_le _) (Nat.zero_le _)) (Nat.zero_le _) (Nat.zero_le _)) (Nat.zero_le _) (Nat.zero_le _)) (Nat.zero_le _) (by decide)) (Nat.zero_le _) (Nat.zero_le _)) (Nat.zero_le _) (Nat.zero_le _)) (Nat.zero_le _) (Nat.zero_le _)) (Nat.zero_le _) (Nat.zero_le _)
theorem tm_I_ca {t : Nat} {T : tm_T} (h : tm_B T) (h18 : T 18 0 ≤ T 19 0) : tm_I (tm_ca t T) := by
  unfold tm_ca
  split
  · exact tm_I_up (tm_I_up (tm_I_ca3 h h18) (Nat.zero_le _) (Nat.zero_le _) (by decide) (by decide) (by decide) (by decide)) (Nat.zero_le _) (Nat.zero_le _) (by decide) (by decide) (by decide) (by decide)
  · exact tm_I_ca3 h h18
theorem tm_I_ss {t : Nat} {T : tm_T} {b : Nat} (h : tm_I T) : tm_I (tm_ss t T b) := by
  have h4 := tm_b4 h.1 0
  have h5 := tm_b5 h.1 0
  have h6 := tm_b6 h.1 0
  have h7 := tm_b7 h.1 0
  have h13 := tm_b13 h.1 0
  have h14 := tm_b14 h.1 0
  have h15 := tm_b15 h.1 0
  unfold tm_ss
  split
  · exact tm_I_up (tm_I_up (tm_I_up h (Nat.zero_le _) h4 (by decide) (by decide) (by decide) (by decide)) (Nat.zero_le _) h5 (by decide) (by decide) (by decide) (by decide)) (Nat.zero_le _) h7 (by decide) (by decide) (by decide) (by decide)
  · have hv : (if tm_ks b then 0 else T 6 0) ≤ 1 := by
      split <;> omega
    revert hv
    generalize (if tm_ks b then 0 else T 6 0) = v
    intro hv
    have hi : tm_I (tm_up T 6 0 v) := tm_I_up h (Nat.zero_le _) hv (by decide) (by decide) (by decide) (by decide)
    unfold tm_ss2
    split
    · exact tm_I_up (tm_I_mt hi h13 h14) (Nat.zero_le _) h15 (by decide) (by decide) (by decide) (by decide)
    split
    · exact tm_I_lf hi
    split
    · exact tm_I_lf (tm_I_up hi (Nat.zero_le _) (Nat.zero_le _) (by decide) (by decide) (by decide) (by decide))
    split
    · exact tm_I_gu hi
    split
    · exact tm_I_ca hi.1 hi.2.2
    · exact hi
theorem tm_me_1 {s b : Nat} (h : tm_me s b = 1) : 32 ≤ b ∧ b ≤ 126 := by
  unfold tm_me at h
  repeat' split at h
  all_goals first | omega | (exfalso; revert h; decide)
theorem tm_I_do {t : Nat} {T : tm_T} {m b : Nat} (h : tm_I T) (hm1 : m = 1 → 32 ≤ b ∧ b ≤ 126) : tm_I (tm_do t T m b) := by
  have h22 := tm_b22 h.1 0
  unfold tm_do
  split
  · rename_i z
    exact tm_I_ps h (hm1 z).1 (hm1 z).2
  split
  · exact tm_I_ct h
  split
  · exact tm_I_up (tm_I_up (tm_I_up (tm_I_up h (Nat.zero_le _) (Nat.zero_le _) (by decide) (by decide) (by decide) (by decide)) (by decide) (by decide) (by decide) (by decide) (by decide) (by decide)) (Nat.zero_le _) (Nat.zero_le _) (by decide) (by decide) (by decide) (by decide)) (Nat.zero_le _) (by decide) (by decide) (by decide) (by decide) (by decide)
  split
  · exact tm_I_up h (Nat.zero_le _) (by decide) (by decide) (by decide) (by decide) (by decide)
  split
  · unfold tm_ad
    split
    · exact h
    · refine tm_I_up h (Nat.zero_le _) (show _ ≤ 99 from ?_) (by decide) (by decide) (by decide) (by decide)
      split <;> omega
  split
  · unfold tm_nn
    split
    · exact tm_I_up h (by decide) (by decide) (by decide) (by decide) (by decide) (by decide)
    · exact tm_I_up (tm_I_up h (Nat.zero_le _) (Nat.zero_le _) (by decide) (by decide) (by decide) (by decide)) (show 1 ≤ T 22 0 + 1 by omega) (show T 22 0 + 1 ≤ 5 by omega) (by decide) (by decide) (by decide) (by decide)
  split
  · exact tm_I_ss h
  split
  · exact tm_I_lb h
  · exact h
theorem tm_I_n0 {T : tm_T} (h : tm_I T) : tm_I (tm_n0 T) := by
  refine tm_I_of h ?_ rfl rfl rfl rfl
  intro f i
  unfold tm_n0
  split
  · rename_i z
    rw [z]
    exact ⟨by decide, by decide⟩
  split
  · rename_i z
    rw [z]
    exact ⟨by decide, by decide⟩
  split
  · rename_i z
    rw [z]
    exact ⟨by decide, by decide⟩
  split
  · rename_i z
    rw [z]
    exact ⟨by decide, by decide⟩
  · exact h.1 f i
theorem tm_I_no {T : tm_T} (h : tm_I T) : tm_I (tm_no T) := by
  unfold tm_no
  split
  · exact h
  · exact tm_I_n0 h
/-! the state of the parser -/
theorem tm_z_su {t n : Nat} {T : tm_T} : tm_su t n T 20 0 = T 20 0 := tm_su_o (by decide) (by decide) (by decide) (by decide) (by decide) (by decide)
theorem tm_z_sd {n : Nat} {T : tm_T} : tm_sd n T 20 0 = T 20 0 := tm_sd_o (by decide) (by decide) (by decide)
theorem tm_z_lf {t : Nat} {T : tm_T} : tm_lf t T 20 0 = T 20 0 := by
  unfold tm_lf
  split
  · exact tm_z_su
  split
  · rfl
  · rfl
theorem tm_z_gu {T : tm_T} : tm_gu T 20 0 = T 20 0 := by
  unfold tm_gu
  split
  · exact tm_z_sd
  split
  · rfl
  · rfl
theorem tm_z_ps9 {T : tm_T} {b l c : Nat} : tm_ps9 T b l c 20 0 = T 20 0 := by
  unfold tm_ps9
  split <;> rfl
theorem tm_z_ps3 {T : tm_T} {b : Nat} : tm_ps3 T b 20 0 = T 20 0 := by
  unfold tm_ps3
  split
  · exact tm_z_ps9
  · exact tm_z_ps9.trans (tm_cd_o (by decide) (by decide))
theorem tm_z_ps {t : Nat} {T : tm_T} {b : Nat} : tm_ps t T b 20 0 = T 20 0 := by
  unfold tm_ps
  split
  · exact tm_z_ps3
  · exact tm_z_ps3.trans (tm_z_lf.trans rfl)
theorem tm_z_ct {t : Nat} {T : tm_T} {b : Nat} : tm_ct t T b 20 0 = T 20 0 := by
  unfold tm_ct
  repeat' split
  all_goals first | rfl | exact tm_z_lf.trans rfl
theorem tm_z_ca {t : Nat} {T : tm_T} : tm_ca t T 20 0 = 0 := by
  unfold tm_ca
  split <;> rfl
theorem tm_z_ss {t : Nat} {T : tm_T} {b : Nat} (h : T 20 0 = 0) : tm_ss t T b 20 0 = 0 := by
  unfold tm_ss
  split
  · exact h
  · unfold tm_ss2
    split
    · exact h
    split
    · exact tm_z_lf.trans h
    split
    · exact tm_z_lf.trans h
    split
    · exact tm_z_gu.trans h
    split
    · exact tm_z_ca
    · exact h
theorem tm_z_sw {T : tm_T} {b : Nat} : tm_sw T b 20 0 = T 20 0 := by
  unfold tm_sw
  split
  · rfl
  split
  · rfl
  · rw [tm_wr_o (by decide) (by decide), tm_mt_o (by decide) (by decide), tm_er_o (by decide) (by decide), tm_upF _ (by decide), tm_upF _ (by decide), tm_upF _ (by decide), tm_upF _ (by decide), tm_upF _ (by decide), tm_upF _ (by decide)]
theorem tm_z_sm {T : tm_T} {b : Nat} : tm_sm T b 20 0 = T 20 0 := by
  unfold tm_sm
  split
  · rfl
  split
  · exact tm_z_sw
  · rfl
theorem tm_z_tr {T : tm_T} {b n : Nat} : tm_tr T b n 20 0 = T 20 0 := by
  unfold tm_tr
  repeat' split
  all_goals rfl
theorem tm_z_rs {T : tm_T} {b p n : Nat} : tm_rs T b p n 20 0 = T 20 0 := by
  unfold tm_rs tm_rs3 tm_rs2
  repeat' split
  all_goals first | rfl | exact tm_ec_o (by decide) (by decide) | exact (tm_er_o (by decide) (by decide)).trans (tm_ec_o (by decide) (by decide)) | exact (tm_er_o (by decide) (by decide)).trans ((tm_er_o (by decide) (by decide)).trans (tm_ec_o (by decide) (by decide)))
theorem tm_z_sc {T : tm_T} {b n : Nat} : tm_sc T b n 20 0 = T 20 0 := by
  unfold tm_sc
  split
  · exact (tm_ec_o (by decide) (by decide)).trans (tm_cu_o (by decide) (by decide))
  · exact (tm_ec_o (by decide) (by decide)).trans (tm_cd_o (by decide) (by decide))
theorem tm_z_sh {T : tm_T} {b n : Nat} : tm_sh T b n 20 0 = T 20 0 := by
  unfold tm_sh
  repeat' split
  all_goals first | rfl | exact (tm_ti_o (by decide) (by decide) (by decide)).trans rfl
theorem tm_z_sr {T : tm_T} {p : Nat} : tm_sr T p 20 0 = T 20 0 := by
  unfold tm_sr
  generalize (if tm_nm T 1 = 0 then 6 else tm_nm T 1) = q
  generalize (if p = 0 then 1 else p) = f
  repeat' split
  all_goals rfl
theorem tm_z_lb2 {t : Nat} {T : tm_T} {b p n : Nat} : tm_lb2 t T b p n 20 0 = T 20 0 := by
  unfold tm_lb2
  repeat' split
  all_goals first | exact tm_z_tr | exact tm_z_rs | exact tm_z_sc | exact tm_z_sh | exact tm_z_su | exact tm_z_sd | exact tm_z_sr
theorem tm_z_lb {t : Nat} {T : tm_T} {b : Nat} : tm_lb t T b 20 0 = T 20 0 := by
  unfold tm_lb
  repeat' split
  all_goals first | rfl | exact tm_cpL_o (by decide) | exact tm_z_lb2.trans rfl | exact tm_z_sm
theorem tm_J_rd {t : Nat} {T : tm_T} {b : Nat} (h : tm_J T) : tm_J (tm_rd t T b) := by
  have h20 := tm_b20 h.1.1 0
  have hns := tm_ns_le (tm_me (T 20 0) b)
  have hI' : tm_I (tm_up T 20 0 (tm_ns (tm_me (T 20 0) b))) := tm_I_up h.1 (Nat.zero_le _) hns (by decide) (by decide) (by decide) (by decide)
  have hD := tm_I_do (t := t) (m := tm_me (T 20 0) b) (b := b) hI' tm_me_1
  refine ⟨tm_I_no hD, ?_⟩
  unfold tm_rd tm_no
  split
  · intro _
    rename_i z
    revert z
    have h27 : 6 ≤ tm_me (T 20 0) b → T 27 0 = 1 := fun z => h.2 (tm_me_27 (by omega) z)
    revert h27
    generalize tm_me (T 20 0) b = m
    intro h27 z
    unfold tm_do at z ⊢
    split
    · rename_i y
      rw [if_pos y, tm_z_ps, tm_upS] at z
      subst y
      exact absurd z (by decide)
    rename_i y1
    rw [if_neg y1] at z
    split
    · rename_i y
      rw [if_pos y, tm_z_ct, tm_upS] at z
      subst y
      exact absurd z (by decide)
    rename_i y2
    rw [if_neg y2] at z
    split
    · rfl
    rename_i y3
    rw [if_neg y3] at z
    split
    · exact h27 (by omega)
    rename_i y4
    rw [if_neg y4] at z
    split
    · have := h27 (by omega)
      unfold tm_ad
      split <;> exact this
    rename_i y5
    rw [if_neg y5] at z
    split
    · have := h27 (by omega)
      unfold tm_nn
      split <;> exact this
    rename_i y6
    rw [if_neg y6] at z
    split
    · rename_i y
      rw [if_pos y] at z
      subst y
      have e5 : tm_ns 5 = 0 := rfl
      rw [e5, tm_z_ss (tm_upS _ _ _ _)] at z
      exact absurd z (by decide)
    rename_i y7
    rw [if_neg y7] at z
    split
    · rename_i y
      rw [if_pos y, tm_z_lb, tm_upS] at z
      subst y
      exact absurd z (by decide)
    · rename_i y8
      rw [if_neg y8, tm_upS] at z
      unfold tm_ns at z
      repeat' split at z
      all_goals first | exact absurd z (by decide) | (exact h27 (by omega))
  · rename_i z
    intro y
    exact absurd y z
end
section
/-! looking: both terminals, none at hand -/
def tm_E (u : St1) (A B : tm_T) : Prop := tm_Sl u 0 A ∧ tm_Sl u 1 B
theorem tm_E0 {u : St1} {A B : tm_T} (h : tm_R u 0 A B) : tm_E u A B := ⟨h.2.2.1, h.2.2.2⟩
theorem tm_E1 {u : St1} {A B : tm_T} (h : tm_R u 1 B A) : tm_E u A B := ⟨h.2.2.2, h.2.2.1⟩
theorem tm_lineOf {post : Int32 → Prop} {u : St1} {t r : Nat} {T : tm_T} (h : tm_Sl u t T) (ht : t < 2) (hb : tm_Sb T) (hr : r < 6) (hp : post (nI (t * 144 + tm_ln T r))) : wpX_lineOf post u (nI t) (nI r) := by
  obtain ⟨at_, kc, kn, a1, a2, a3, a4, a5, a6, a7, a8, a9, a10, a11, a12, a13, a14, a15, a16, a17, a18, a19, a20, a21, a22, a23, a24⟩ := u
  have h12 := hb.1
  have e0 : nI t * 2 + a12 (nI t).toNatClampNeg = nI (t * 2 + T 12 0) := by
    rw [nI_clamp (by omega), tm_s12 h, show (2 : Int32) = nI 2 from rfl, pk_mul, nI_add]
  have e1 : nI (t * 2 + T 12 0) * 6 + nI r = nI (t * 12 + (T 12 0 * 6 + r)) := by
    rw [show (6 : Int32) = nI 6 from rfl, pk_mul, nI_add]
    congr 1
    omega
  have e2 : (nI t * 12 + a3 (nI (t * 2 + T 12 0) * 6 + nI r).toNatClampNeg) * 12 = nI (t * 144 + tm_ln T r) := by
    rw [e1, nI_clamp (by omega), tm_s3 h _ (by omega)]
    exact tm_ix2 _ _
  exact (And.intro (pk_in t 2 ht) (nm_r e0 (And.intro (pk_in (t * 12 + (T 12 0 * 6 + r)) 24 (by omega) e1) ((congrArg post e2).mpr hp))))
/-- cell i of the first is as cell j of the second -/
abbrev tm_eq (A B : tm_T) (i j : Nat) : Prop := A 1 i = B 1 j ∧ A 2 i = B 2 j
theorem tm_sameCells {post : Int32 → Prop} {u : St1} {i j : Nat} {x y : Int32} {A B : tm_T} (h : tm_E u A B) (hA : tm_Cb A) (hB : tm_Cb B) (hi : i < 144) (hj : j < 144) (hx : x = nI (0 * 144 + i)) (hy : y = nI (1 * 144 + j)) (h1 : tm_eq A B i j → post 1) (h0 : ¬ tm_eq A B i j → post 0) : wpX_sameCells post u x y := by
  obtain ⟨at_, kc, kn, a1, a2, a3, a4, a5, a6, a7, a8, a9, a10, a11, a12, a13, a14, a15, a16, a17, a18, a19, a20, a21, a22, a23, a24⟩ := u
  subst hx hy
  have e1 : a1 (nI (0 * 144 + i)).toNatClampNeg = nI (A 1 i) := by
    rw [nI_clamp (by omega)]
    exact tm_s1 h.1 i hi
  have e2 : a1 (nI (1 * 144 + j)).toNatClampNeg = nI (B 1 j) := by
    rw [nI_clamp (by omega)]
    exact tm_s1 h.2 j hj
  have e3 : a2 (nI (0 * 144 + i)).toNatClampNeg = nI (A 2 i) := by
    rw [nI_clamp (by omega)]
    exact tm_s2 h.1 i hi
  have e4 : a2 (nI (1 * 144 + j)).toNatClampNeg = nI (B 2 j) := by
    rw [nI_clamp (by omega)]
    exact tm_s2 h.2 j hj
  have b1 := hA i
  have b2 := hB j
  exact (And.intro (pk_in (0 * 144 + i) 288 (by omega)) (And.intro (pk_in (1 * 144 + j) 288 (by omega)) (pk_eq (A 1 i) (B 1 j) (fun z => (And.intro (pk_in (0 * 144 + i) 288 (by omega)) (And.intro (pk_in (1 * 144 + j) 288 (by omega)) (pk_eq (A 2 i) (B 2 j) (fun y => h1 ⟨z, y⟩) (fun y => h0 (fun w => y w.2)) e3 e4)))) (fun z => h0 (fun w => z w.1)) e1 e2)))
/-! how many cells are stale -/
def tm_stL (A B : tm_T) (la lb : Nat) : Nat → Nat → Nat → Nat
  | 0, _, s => s
  | n + 1, c, s => tm_stL A B la lb n (c + 1) (s + if tm_eq A B (la + c) (lb + c) then 0 else 1)
def tm_stR (A B : tm_T) : Nat → Nat → Nat → Nat
  | 0, _, s => s
  | n + 1, r, s => tm_stR A B n (r + 1) (s + tm_stL A B (tm_ln A r) (tm_ln B r) 12 0 0)
def tm_sta (A B : tm_T) : Nat := tm_stR A B 6 0 0
theorem tm_staleL {post : Int32 → Prop} {la lb : Nat} {A B : tm_T} {at_ kc kn a1 a2 a3 a4 a5 a6 a7 a8 a9 a10 a11 a12 a13 a14 a15 a16 a17 a18 a19 a20 a21 a22 a23 a24} (h : tm_E (at_, kc, kn, a1, a2, a3, a4, a5, a6, a7, a8, a9, a10, a11, a12, a13, a14, a15, a16, a17, a18, a19, a20, a21, a22, a23, a24) A B) (hA : tm_Cb A) (hB : tm_Cb B) (hla : la + 12 ≤ 144) (hlb : lb + 12 ≤ 144) : ∀ n c s : Nat, c + n = 12 → post (nI (tm_stL A B la lb n c s)) → wX_staleIn_20 post (nI (0 * 144 + la)) (nI (1 * 144 + lb)) at_ kc kn a1 a2 a3 a4 a5 a6 a7 a8 a9 a10 a11 a12 a13 a14 a15 a16 a17 a18 a19 a20 a21 a22 a23 a24 (n + 1) (nI s) (nI c) := by
  intro n
  induction n with
  | zero =>
    intro c s hc hp
    exact pk_le 12 c (fun _ => hp) (fun z => absurd z (by omega))
  | succ n ih =>
    intro c s hc hp
    unfold tm_stL at hp
    refine pk_le 12 c (fun z => absurd z (by omega)) (fun _ => tm_sameCells h hA hB (show la + c < 144 by omega) (show lb + c < 144 by omega) (tm_ix3 _ _ _) (tm_ix3 _ _ _) (fun z => ?_) (fun z => ?_))
    · rw [if_pos z] at hp
      exact br_f (by decide) (nm_r (nI_add s 0) (nm_r (nI_1 c) (ih (c + 1) _ (by omega) hp)))
    · rw [if_neg z] at hp
      exact br_t rfl (nm_r (nI_1 s) (nm_r (nI_1 c) (ih (c + 1) _ (by omega) hp)))
theorem tm_staleIn {post : Int32 → Prop} {u : St1} {r : Nat} {A B : tm_T} (h : tm_E u A B) (hA : tm_B A) (hB : tm_B B) (hr : r < 6) (hp : post (nI (tm_stL A B (tm_ln A r) (tm_ln B r) 12 0 0))) : wpX_staleIn post u (nI r) := by
  obtain ⟨at_, kc, kn, a1, a2, a3, a4, a5, a6, a7, a8, a9, a10, a11, a12, a13, a14, a15, a16, a17, a18, a19, a20, a21, a22, a23, a24⟩ := u
  unfold wpX_staleIn
  refine tm_lineOf (t := 0) h.1 (by decide) (tm_B_Sb hA) hr ?_
  refine tm_lineOf (t := 1) h.2 (by decide) (tm_B_Sb hB) hr ?_
  refine ⟨13, ?_⟩
  exact tm_staleL h (tm_B_Cb hA) (tm_B_Cb hB) (tm_ln_le (tm_B_Sb hA)) (tm_ln_le (tm_B_Sb hB)) 12 0 0 (by decide) hp
theorem tm_stale4 {post : Int32 → Prop} {A B : tm_T} {at_ kc kn a1 a2 a3 a4 a5 a6 a7 a8 a9 a10 a11 a12 a13 a14 a15 a16 a17 a18 a19 a20 a21 a22 a23 a24} (h : tm_E (at_, kc, kn, a1, a2, a3, a4, a5, a6, a7, a8, a9, a10, a11, a12, a13, a14, a15, a16, a17, a18, a19, a20, a21, a22, a23, a24) A B) (hA : tm_B A) (hB : tm_B B) : ∀ n r s : Nat, r + n = 6 → post (nI (tm_stR A B n r s)) → wX_stale_4 post at_ kc kn a1 a2 a3 a4 a5 a6 a7 a8 a9 a10 a11 a12 a13 a14 a15 a16 a17 a18 a19 a20 a21 a22 a23 a24 (n + 1) (nI s) (nI r) := by
  intro n
  induction n with
  | zero =>
    intro r s hr hp
    exact pk_le 6 r (fun _ => hp) (fun z => absurd z (by omega))
  | succ n ih =>
    intro r s hr hp
    unfold tm_stR at hp
    exact pk_le 6 r (fun z => absurd z (by omega)) (fun _ => tm_staleIn h hA hB (by omega) (nm_r (nI_add _ _) (nm_r (nI_1 r) (ih (r + 1) _ (by omega) hp))))
theorem tm_stale {post : Int32 → Prop} {u : St1} {A B : tm_T} (h : tm_E u A B) (hA : tm_B A) (hB : tm_B B) (hp : post (nI (tm_sta A B))) : wpX_stale post u := by
  obtain ⟨at_, kc, kn, a1, a2, a3, a4, a5, a6, a7, a8, a9, a10, a11, a12, a13, a14, a15, a16, a17, a18, a19, a20, a21, a22, a23, a24⟩ := u
  exact ⟨7, tm_stale4 h hA hB 6 0 0 (by decide) hp⟩
/-- cell c of row r is right -/
abbrev tm_rt (A B : tm_T) (r c : Nat) : Prop := tm_eq A B (tm_ln A r + c) (tm_ln B r + c)
theorem tm_stL_0 {A B : tm_T} {la lb : Nat} : ∀ n c s, (∀ d, c ≤ d → d < c + n → tm_eq A B (la + d) (lb + d)) → tm_stL A B la lb n c s = s := by
  intro n
  induction n with
  | zero => intro c s _; rfl
  | succ n ih =>
    intro c s h
    unfold tm_stL
    rw [if_pos (h c (by omega) (by omega)), ih (c + 1) _ (fun d h1 h2 => h d (by omega) (by omega))]
    rfl
theorem tm_stR_0 {A B : tm_T} (h : ∀ r c, r < 6 → c < 12 → tm_rt A B r c) : ∀ n r s, r + n = 6 → tm_stR A B n r s = s := by
  intro n
  induction n with
  | zero => intro r s _; rfl
  | succ n ih =>
    intro r s hr
    unfold tm_stR
    rw [tm_stL_0 12 0 0 (fun d _ hd => h r d (by omega) (by omega)), ih (r + 1) _ (by omega)]
    rfl
theorem tm_sta_0 {A B : tm_T} (h : ∀ r c, r < 6 → c < 12 → tm_rt A B r c) : tm_sta A B = 0 := tm_stR_0 h 6 0 0 (by decide)
/-! the first cell that is stale -/
theorem tm_firstL {post : Int32 → Prop} {la lb : Nat} {A B : tm_T} {at_ kc kn a1 a2 a3 a4 a5 a6 a7 a8 a9 a10 a11 a12 a13 a14 a15 a16 a17 a18 a19 a20 a21 a22 a23 a24} (h : tm_E (at_, kc, kn, a1, a2, a3, a4, a5, a6, a7, a8, a9, a10, a11, a12, a13, a14, a15, a16, a17, a18, a19, a20, a21, a22, a23, a24) A B) (hA : tm_Cb A) (hB : tm_Cb B) (hla : la + 12 ≤ 144) (hlb : lb + 12 ≤ 144) (hp : ∀ k, k ≤ 12 → (∀ c, c < k → tm_eq A B (la + c) (lb + c)) → post (nI k)) : ∀ n c : Nat, c + n = 12 → (∀ d, d < c → tm_eq A B (la + d) (lb + d)) → wX_firstStale_17 post (nI (0 * 144 + la)) (nI (1 * 144 + lb)) at_ kc kn a1 a2 a3 a4 a5 a6 a7 a8 a9 a10 a11 a12 a13 a14 a15 a16 a17 a18 a19 a20 a21 a22 a23 a24 (n + 1) (nI c) := by
  intro n
  induction n with
  | zero =>
    intro c hc hd
    exact pk_le 12 c (fun _ => hp c (by omega) hd) (fun z => absurd z (by omega))
  | succ n ih =>
    intro c hc hd
    refine pk_le 12 c (fun z => absurd z (by omega)) (fun _ => tm_sameCells h hA hB (show la + c < 144 by omega) (show lb + c < 144 by omega) (tm_ix3 _ _ _) (tm_ix3 _ _ _) (fun z => ?_) (fun z => ?_))
    · refine br_f (by decide) (nm_r (nI_1 c) (ih (c + 1) (by omega) (fun d hd' => ?_)))
      by_cases q : d = c
      · rw [q]
        exact z
      · exact hd d (by omega)
    · exact br_t rfl (hp c (by omega) hd)
theorem tm_firstStale {post : Int32 → Prop} {u : St1} {r : Nat} {A B : tm_T} (h : tm_E u A B) (hA : tm_B A) (hB : tm_B B) (hr : r < 6) (hp : ∀ k, k ≤ 12 → (∀ c, c < k → tm_rt A B r c) → post (nI k)) : wpX_firstStale post u (nI r) := by
  obtain ⟨at_, kc, kn, a1, a2, a3, a4, a5, a6, a7, a8, a9, a10, a11, a12, a13, a14, a15, a16, a17, a18, a19, a20, a21, a22, a23, a24⟩ := u
  unfold wpX_firstStale
  refine tm_lineOf (t := 0) h.1 (by decide) (tm_B_Sb hA) hr ?_
  refine tm_lineOf (t := 1) h.2 (by decide) (tm_B_Sb hB) hr ?_
  refine ⟨13, ?_⟩
  exact tm_firstL h (tm_B_Cb hA) (tm_B_Cb hB) (tm_ln_le (tm_B_Sb hA)) (tm_ln_le (tm_B_Sb hB)) hp 12 0 (by decide) (fun d hd => absurd hd (by omega))
/-! what is counted for a scroll or a shift: some number -/
theorem tm_rng {x : Int32} {f n : Nat} (hf : f < 2 ^ 31) (hn : n < 2 ^ 31) (h1 : ¬ x < nI f) (h2 : ¬ nI n ≤ x) : ∃ j : Nat, j < n ∧ x = nI j := by
  rw [Int32.lt_iff_toInt_lt, nI_toInt hf] at h1
  rw [Int32.le_iff_toInt_le, nI_toInt hn] at h2
  exact vp_in_of (vp_in_iff.mpr ⟨by omega, by omega⟩) hn
theorem tm_rightCL {post : Int32 → Prop} {la lb f : Nat} {x : Int32} {A B : tm_T} {at_ kc kn a1 a2 a3 a4 a5 a6 a7 a8 a9 a10 a11 a12 a13 a14 a15 a16 a17 a18 a19 a20 a21 a22 a23 a24} (h : tm_E (at_, kc, kn, a1, a2, a3, a4, a5, a6, a7, a8, a9, a10, a11, a12, a13, a14, a15, a16, a17, a18, a19, a20, a21, a22, a23, a24) A B) (hA : tm_Cb A) (hB : tm_Cb B) (hla : la + 12 ≤ 144) (hlb : lb + 12 ≤ 144) (hf : f ≤ 12) (hp : ∀ v, post v) : ∀ (n c : Nat) (s : Int32), c + n = 12 → wX_rightCells_22 post (nI f) x (nI (0 * 144 + la)) (nI (1 * 144 + lb)) at_ kc kn a1 a2 a3 a4 a5 a6 a7 a8 a9 a10 a11 a12 a13 a14 a15 a16 a17 a18 a19 a20 a21 a22 a23 a24 (n + 1) s (nI c) := by
  intro n
  induction n with
  | zero =>
    intro c s hc
    exact pk_le 12 c (fun _ => hp _) (fun z => absurd z (by omega))
  | succ n ih =>
    intro c s hc
    refine pk_le 12 c (fun z => absurd z (by omega)) (fun _ => ?_)
    intro y ey
    have skip : wX_rightCells_52 post (wX_rightCells_22 post (nI f) x (nI (0 * 144 + la)) (nI (1 * 144 + lb)) at_ kc kn a1 a2 a3 a4 a5 a6 a7 a8 a9 a10 a11 a12 a13 a14 a15 a16 a17 a18 a19 a20 a21 a22 a23 a24 (n + 1)) (nI f) x (nI (0 * 144 + la)) (nI (1 * 144 + lb)) s (nI c) y at_ kc kn a1 a2 a3 a4 a5 a6 a7 a8 a9 a10 a11 a12 a13 a14 a15 a16 a17 a18 a19 a20 a21 a22 a23 a24 :=
      br_t rfl (nm_e (nm_r (nI_1 c) (ih (c + 1) _ (by omega))))
    refine br_c (fun _ => skip) (fun z1 => br_c (fun _ => skip) (fun z2 => ?_))
    obtain ⟨j, hj, rfl⟩ := tm_rng (n := 12) (by omega) (by decide) z1 z2
    refine br_f (by decide) (tm_sameCells h hA hB (show la + c < 144 by omega) (show lb + j < 144 by omega) (tm_ix3 _ _ _) (tm_ix3 _ _ _) (fun _ => ?_) (fun _ => ?_))
    · exact br_f (by decide) (nm_e (nm_r (nI_1 c) (ih (c + 1) _ (by omega))))
    · exact br_t rfl (nm_e (nm_r (nI_1 c) (ih (c + 1) _ (by omega))))
theorem tm_rightCells {post : Int32 → Prop} {u : St1} {r f : Nat} {x : Int32} {A B : tm_T} (h : tm_E u A B) (hA : tm_B A) (hB : tm_B B) (hr : r < 6) (hf : f ≤ 12) (hp : ∀ v, post v) : wpX_rightCells post u (nI r) (nI f) x := by
  obtain ⟨at_, kc, kn, a1, a2, a3, a4, a5, a6, a7, a8, a9, a10, a11, a12, a13, a14, a15, a16, a17, a18, a19, a20, a21, a22, a23, a24⟩ := u
  unfold wpX_rightCells
  refine tm_lineOf (t := 0) h.1 (by decide) (tm_B_Sb hA) hr ?_
  refine tm_lineOf (t := 1) h.2 (by decide) (tm_B_Sb hB) hr ?_
  refine ⟨12 - f + 1, ?_⟩
  exact tm_rightCL h (tm_B_Cb hA) (tm_B_Cb hB) (tm_ln_le (tm_B_Sb hA)) (tm_ln_le (tm_B_Sb hB)) hf hp (12 - f) f 0 (by omega)
theorem tm_rightAL {post : Int32 → Prop} {J : Int32 → Int32 → Prop} {la lb k : Nat} {x s : Int32} {A B : tm_T} {at_ kc kn a1 a2 a3 a4 a5 a6 a7 a8 a9 a10 a11 a12 a13 a14 a15 a16 a17 a18 a19 a20 a21 a22 a23 a24} (h : tm_E (at_, kc, kn, a1, a2, a3, a4, a5, a6, a7, a8, a9, a10, a11, a12, a13, a14, a15, a16, a17, a18, a19, a20, a21, a22, a23, a24) A B) (hA : tm_Cb A) (hB : tm_Cb B) (hla : la + 12 ≤ 144) (hlb : lb + 12 ≤ 144) (hp : ∀ v, J v (nI (k + 1))) : ∀ (n c : Nat) (w : Int32), c + n = 12 → wX_rightAfter_50 post J x s (nI k) (nI (0 * 144 + la)) (nI (1 * 144 + lb)) at_ kc kn a1 a2 a3 a4 a5 a6 a7 a8 a9 a10 a11 a12 a13 a14 a15 a16 a17 a18 a19 a20 a21 a22 a23 a24 (n + 1) w (nI c) := by
  intro n
  have out : ∀ w : Int32, wX_rightAfter_84 post J x s (nI k) w at_ kc kn a1 a2 a3 a4 a5 a6 a7 a8 a9 a10 a11 a12 a13 a14 a15 a16 a17 a18 a19 a20 a21 a22 a23 a24 := fun w => br_c (fun _ => nm_e (nm_r (nI_1 k) (hp _))) (fun _ => nm_e (nm_r (nI_1 k) (hp _)))
  induction n with
  | zero =>
    intro c w hc
    exact pk_le 12 c (fun _ => out w) (fun z => absurd z (by omega))
  | succ n ih =>
    intro c w hc
    refine pk_le 12 c (fun z => absurd z (by omega)) (fun _ => br_c (fun _ => out w) (fun _ => ?_))
    exact tm_sameCells h hA hB (show la + c < 144 by omega) (show lb + c < 144 by omega) (tm_ix3 _ _ _) (tm_ix3 _ _ _) (fun _ => nm_r (nI_1 c) (ih (c + 1) _ (by omega))) (fun _ => nm_r (nI_1 c) (ih (c + 1) _ (by omega)))
theorem tm_rightA4 {post : Int32 → Prop} {x : Int32} {A B : tm_T} {at_ kc kn a1 a2 a3 a4 a5 a6 a7 a8 a9 a10 a11 a12 a13 a14 a15 a16 a17 a18 a19 a20 a21 a22 a23 a24} (h : tm_E (at_, kc, kn, a1, a2, a3, a4, a5, a6, a7, a8, a9, a10, a11, a12, a13, a14, a15, a16, a17, a18, a19, a20, a21, a22, a23, a24) A B) (hA : tm_B A) (hB : tm_B B) (hp : ∀ v, post v) : ∀ (n r : Nat) (s : Int32), r + n = 6 → wX_rightAfter_4 post x at_ kc kn a1 a2 a3 a4 a5 a6 a7 a8 a9 a10 a11 a12 a13 a14 a15 a16 a17 a18 a19 a20 a21 a22 a23 a24 (n + 1) s (nI r) := by
  intro n
  induction n with
  | zero =>
    intro r s hr
    exact pk_le 6 r (fun _ => hp _) (fun z => absurd z (by omega))
  | succ n ih =>
    intro r s hr
    refine pk_le 6 r (fun z => absurd z (by omega)) (fun _ => ?_)
    intro y ey
    refine br_c (fun _ => nm_r (nI_1 r) (ih (r + 1) _ (by omega))) (fun z1 => br_c (fun _ => nm_r (nI_1 r) (ih (r + 1) _ (by omega))) (fun z2 => ?_))
    obtain ⟨j, hj, rfl⟩ := tm_rng (f := 0) (n := 6) (by decide) (by decide) z1 z2
    refine tm_lineOf (t := 0) h.1 (by decide) (tm_B_Sb hA) (by omega) ?_
    refine tm_lineOf (t := 1) h.2 (by decide) (tm_B_Sb hB) hj ?_
    refine ⟨13, ?_⟩
    exact tm_rightAL h (tm_B_Cb hA) (tm_B_Cb hB) (tm_ln_le (tm_B_Sb hA)) (tm_ln_le (tm_B_Sb hB)) (fun v => ih (r + 1) v (by omega)) 12 0 1 (by decide)
theorem tm_rightAfter {post : Int32 → Prop} {u : St1} {x : Int32} {A B : tm_T} (h : tm_E u A B) (hA : tm_B A) (hB : tm_B B) (hp : ∀ v, post v) : wpX_rightAfter post u x := by
  obtain ⟨at_, kc, kn, a1, a2, a3, a4, a5, a6, a7, a8, a9, a10, a11, a12, a13, a14, a15, a16, a17, a18, a19, a20, a21, a22, a23, a24⟩ := u
  exact ⟨7, tm_rightA4 h hA hB hp 6 0 0 (by decide)⟩
end
section
/-! what sequences make of the picture of the terminal that shows -/
def tm_N (T : tm_T) : Prop := ∀ i, T 21 i = 0 ∧ T 22 i = 1 ∧ T 23 i = 0 ∧ T 27 i = 0
def tm_ls (T : tm_T) (s k : Nat) (num : Nat → Nat) : tm_T := fun f i =>
  if f = 20 ∧ i = 0 then s else if f = 22 ∧ i = 0 then k else if f = 23 then num i else if f = 27 ∧ i = 0 then 1 else T f i
theorem tm_ext5 {X Y : tm_T} (h0 : ∀ i, X 20 i = Y 20 i) (h1 : ∀ i, X 21 i = Y 21 i) (h2 : ∀ i, X 22 i = Y 22 i) (h3 : ∀ i, X 23 i = Y 23 i) (h7 : ∀ i, X 27 i = Y 27 i) (ho : ∀ f i, f ≠ 20 → f ≠ 21 → f ≠ 22 → f ≠ 23 → f ≠ 27 → X f i = Y f i) : X = Y := by
  funext f i
  by_cases z0 : f = 20
  · rw [z0]
    exact h0 i
  by_cases z1 : f = 21
  · rw [z1]
    exact h1 i
  by_cases z2 : f = 22
  · rw [z2]
    exact h2 i
  by_cases z3 : f = 23
  · rw [z3]
    exact h3 i
  by_cases z7 : f = 27
  · rw [z7]
    exact h7 i
  · exact ho f i z0 z1 z2 z3 z7
theorem tm_ls_o {T : tm_T} {s k : Nat} {num : Nat → Nat} {f i : Nat} (z0 : f ≠ 20) (z2 : f ≠ 22) (z3 : f ≠ 23) (z7 : f ≠ 27) : tm_ls T s k num f i = T f i := by
  unfold tm_ls
  rw [if_neg (fun z => z0 z.1), if_neg (fun z => z2 z.1), if_neg z3, if_neg (fun z => z7 z.1)]
theorem tm_n0_o {T : tm_T} {f i : Nat} (z1 : f ≠ 21) (z2 : f ≠ 22) (z3 : f ≠ 23) (z7 : f ≠ 27) : tm_n0 T f i = T f i := by
  unfold tm_n0
  rw [if_neg z1, if_neg z2, if_neg z3, if_neg z7]
theorem tm_n0_same {T : tm_T} (h : tm_N T) : tm_n0 T = T :=
  tm_ext5 (fun _ => rfl) (fun i => (h i).1.symm) (fun i => (h i).2.1.symm) (fun i => (h i).2.2.1.symm) (fun i => (h i).2.2.2.symm) (fun _ _ _ z1 z2 z3 z7 => tm_n0_o z1 z2 z3 z7)
theorem tm_N_n0 (T : tm_T) : tm_N (tm_n0 T) := fun _ => ⟨rfl, rfl, rfl, rfl⟩
theorem tm_up_same {T : tm_T} {f i v : Nat} (h : T f i = v) : tm_up T f i v = T := by
  funext g j
  unfold tm_up
  split
  · rename_i z
    rw [z.1, z.2, h]
  · rfl
theorem tm_rd27 {t : Nat} {T : tm_T} (hN : tm_N T) : tm_rd t T 27 = tm_up T 20 0 1 := by
  have e : tm_me (T 20 0) 27 = 3 := if_pos rfl
  unfold tm_rd
  rw [e]
  show tm_n0 (tm_up T 20 0 1) = tm_up T 20 0 1
  exact tm_n0_same (fun i => hN i)
theorem tm_rd91 {t : Nat} {T : tm_T} (hN : tm_N T) : tm_rd t (tm_up T 20 0 1) 91 = tm_ls T 2 1 (fun _ => 0) := by
  show tm_li (tm_up (tm_up T 20 0 1) 20 0 2) = tm_ls T 2 1 (fun _ => 0)
  refine tm_ext5 (fun i => ?_) (fun i => ?_) (fun i => ?_) (fun i => ?_) (fun i => ?_) (fun f i z0 z1 z2 z3 z7 => ?_)
  · by_cases z : i = 0
    · rw [z]
      rfl
    · show tm_up (tm_up T 20 0 1) 20 0 2 20 i = tm_ls T 2 1 (fun _ => 0) 20 i
      rw [tm_upI _ z, tm_upI _ z]
      unfold tm_ls
      rw [if_neg (fun q => z q.2)]
      rfl
  · show tm_up (tm_up (tm_up T 20 0 1) 20 0 2) 21 0 0 21 i = T 21 i
    by_cases z : i = 0
    · rw [z, (hN 0).1]
      rfl
    · rw [tm_upI _ z, tm_upF _ (by decide), tm_upF _ (by decide)]
  · by_cases z : i = 0
    · rw [z]
      rfl
    · show tm_up T 22 0 1 22 i = tm_ls T 2 1 (fun _ => 0) 22 i
      rw [tm_upI _ z]
      unfold tm_ls
      rw [if_neg (by omega), if_neg (fun q => z q.2)]
      rfl
  · show tm_up T 23 0 0 23 i = 0
    by_cases z : i = 0
    · rw [z]
      rfl
    · rw [tm_upI _ z]
      exact (hN i).2.2.1
  · by_cases z : i = 0
    · rw [z]
      rfl
    · show tm_up T 27 0 1 27 i = tm_ls T 2 1 (fun _ => 0) 27 i
      rw [tm_upI _ z]
      unfold tm_ls
      rw [if_neg (by omega), if_neg (by omega), if_neg (by decide), if_neg (fun q => z q.2)]
  · rw [tm_ls_o z0 z2 z3 z7]
    unfold tm_li
    rw [tm_upF _ z7, tm_upF _ z3, tm_upF _ z2, tm_upF _ z1, tm_upF _ z0, tm_upF _ z0]
theorem tm_ls_s {T : tm_T} {s s' k : Nat} {num : Nat → Nat} : tm_up (tm_ls T s k num) 20 0 s' = tm_ls T s' k num := by
  funext f i
  unfold tm_up tm_ls
  split <;> rfl
theorem tm_ls_23 {T : tm_T} {s k j v : Nat} {num : Nat → Nat} : tm_up (tm_ls T s k num) 23 j v = tm_ls T s k (fun i => if i = j then v else num i) := by
  funext f i
  by_cases z : f = 23
  · subst z
    show (if 23 = 23 ∧ i = j then v else num i) = if i = j then v else num i
    by_cases y : i = j
    · rw [if_pos ⟨rfl, y⟩, if_pos y]
    · rw [if_neg (fun q => y q.2), if_neg y]
  · rw [tm_upF _ z]
    unfold tm_ls
    rw [if_neg z, if_neg z]
theorem tm_ls_22 {T : tm_T} {s k k' : Nat} {num : Nat → Nat} : tm_up (tm_ls T s k num) 22 0 k' = tm_ls T s k' num := by
  funext f i
  by_cases z : f = 22 ∧ i = 0
  · rw [z.1, z.2]
    rfl
  · unfold tm_up tm_ls
    rw [if_neg z, if_neg z, if_neg z]
theorem tm_me7 {s b : Nat} (hs : 2 ≤ s) (h1 : 48 ≤ b) (h2 : b ≤ 57) : tm_me s b = 7 := by
  unfold tm_me
  rw [if_neg (by omega), if_neg (by omega), if_neg (by omega), if_pos ⟨h1, h2⟩]
theorem tm_me9 {s b : Nat} (hs : 2 ≤ s) (h1 : 64 ≤ b) (h2 : b < 127) : tm_me s b = 9 := by
  unfold tm_me
  rw [if_neg (by omega), if_neg (by omega), if_neg (by omega), if_neg (by omega), if_neg (by omega), if_pos ⟨h1, h2⟩]
theorem tm_me8 {s : Nat} (hs : 2 ≤ s) : tm_me s 59 = 8 := by
  unfold tm_me
  rw [if_neg (by omega), if_neg (by omega), if_neg (by omega), if_neg (by omega), if_pos rfl]
theorem tm_rdD {t : Nat} {T : tm_T} {s k b : Nat} {num : Nat → Nat} (hs : 2 ≤ s) (hk : k ≤ 4) (h1 : 48 ≤ b) (h2 : b ≤ 57) (h9 : 10 * num (k - 1) + (b - 48) ≤ 99) : tm_rd t (tm_ls T s k num) b = tm_ls T 3 k (fun i => if i = k - 1 then 10 * num (k - 1) + (b - 48) else num i) := by
  have e : tm_me (tm_ls T s k num 20 0) b = 7 := tm_me7 hs h1 h2
  unfold tm_rd
  rw [e]
  show tm_no (tm_ad (tm_up (tm_ls T s k num) 20 0 3) (b - 48)) = _
  rw [tm_ls_s]
  unfold tm_ad
  rw [if_neg (show ¬ 4 < tm_ls T 3 k num 22 0 from (show ¬ 4 < k by omega))]
  show tm_no (tm_up (tm_ls T 3 k num) 23 (k - 1) (if 10 * num (k - 1) + (b - 48) ≤ 99 then 10 * num (k - 1) + (b - 48) else 99)) = _
  rw [if_pos h9, tm_ls_23]
  rfl
theorem tm_rd59 {t : Nat} {T : tm_T} {s k : Nat} {num : Nat → Nat} (hs : 2 ≤ s) (hk : k < 4) : tm_rd t (tm_ls T s k num) 59 = tm_ls T 3 (k + 1) (fun i => if i = k then 0 else num i) := by
  have e : tm_me (tm_ls T s k num 20 0) 59 = 8 := tm_me8 hs
  unfold tm_rd
  rw [e]
  show tm_no (tm_nn (tm_up (tm_ls T s k num) 20 0 3)) = _
  rw [tm_ls_s]
  unfold tm_nn
  rw [if_neg (show ¬ 4 ≤ tm_ls T 3 k num 22 0 from (show ¬ 4 ≤ k by omega))]
  show tm_no (tm_up (tm_up (tm_ls T 3 k num) 23 k 0) 22 0 (k + 1)) = _
  rw [tm_ls_23, tm_ls_22]
  rfl
theorem tm_rdZ {t : Nat} {T : tm_T} {s k b : Nat} {num : Nat → Nat} (hs : 2 ≤ s) (h1 : 64 ≤ b) (h2 : b < 127) : tm_rd t (tm_ls T s k num) b = tm_n0 (tm_lb t (tm_ls T 0 k num) b) := by
  have e : tm_me (tm_ls T s k num 20 0) b = 9 := tm_me9 hs h1 h2
  unfold tm_rd
  rw [e]
  show tm_no (tm_lb t (tm_up (tm_ls T s k num) 20 0 0) b) = _
  rw [tm_ls_s]
  unfold tm_no
  rw [tm_z_lb]
  rfl
/-- known sequences with numbers -/
theorem tm_lbK {t : Nat} {T : tm_T} {k b : Nat} {num : Nat → Nat} (hN : tm_N T) (hk : 1 ≤ k) (hb : tm_kn b) : tm_lb t (tm_ls T 0 k num) b = tm_lb2 t (tm_up (tm_ls T 0 k num) 6 0 0) b (num 0) (if num 0 = 0 then 1 else num 0) := by
  unfold tm_kn at hb
  have en : tm_nm (tm_ls T 0 k num) 0 = num 0 := if_neg (show ¬ k ≤ 0 by omega)
  unfold tm_lb
  rw [if_pos (show tm_ls T 0 k num 21 0 = 0 from (hN 0).1), if_neg (by omega), if_neg (by omega), if_neg (by omega), if_pos hb, en]
/-- the cursor goes somewhere -/
def tm_mv (T : tm_T) (r c : Nat) : tm_T := tm_mt (tm_up T 6 0 0) r c
theorem tm_n0mv {T : tm_T} {k r c : Nat} {num : Nat → Nat} (hN : tm_N T) (h20 : T 20 0 = 0) : tm_n0 (tm_mt (tm_up (tm_ls T 0 k num) 6 0 0) r c) = tm_mv T r c := by
  refine tm_ext5 (fun i => ?_) (fun i => (hN i).1.symm) (fun i => (hN i).2.1.symm) (fun i => (hN i).2.2.1.symm) (fun i => (hN i).2.2.2.symm) (fun f i z0 z1 z2 z3 z7 => ?_)
  · show tm_ls T 0 k num 20 i = T 20 i
    by_cases z : i = 0
    · rw [z, h20]
      rfl
    · unfold tm_ls
      rw [if_neg (fun q => z q.2)]
      rfl
  · rw [tm_n0_o z1 z2 z3 z7]
    unfold tm_mv tm_mt tm_up
    rw [tm_ls_o z0 z2 z3 z7]
/-- the invariant of the terminal that shows -/
def tm_Q (T : tm_T) : Prop := tm_J T ∧ (T 8 0 = 0 ∧ T 9 0 = 5 ∧ T 10 0 = 0 ∧ T 11 0 = 1 ∧ T 12 0 = 0 ∧ T 20 0 = 0) ∧ tm_N T ∧ ∀ r r', r < 6 → r' < 6 → T 3 r = T 3 r' → r = r'
theorem tm_Q_mv {T : tm_T} {r c : Nat} (h : tm_Q T) (hr : r < 6) (hc : c < 12) : tm_Q (tm_mv T r c) :=
  ⟨⟨tm_I_mt (tm_I_up h.1.1 (Nat.zero_le _) (Nat.zero_le _) (by decide) (by decide) (by decide) (by decide)) (by omega) (by omega), h.1.2⟩, h.2.1, h.2.2.1, h.2.2.2⟩
theorem tm_Q_pen {T : tm_T} {v : Nat} (h : tm_Q T) (hv : v ≤ 7) : tm_Q (tm_up T 7 0 v) :=
  ⟨⟨tm_I_up h.1.1 (Nat.zero_le _) hv (by decide) (by decide) (by decide) (by decide), h.1.2⟩, h.2.1, h.2.2.1, h.2.2.2⟩
theorem tm_I_ls {T : tm_T} {s k : Nat} {num : Nat → Nat} (h : tm_I T) (hs : s ≤ 3) (hk : 1 ≤ k) (hk5 : k ≤ 5) (hn : ∀ i, num i ≤ 99) : tm_I (tm_ls T s k num) := by
  refine tm_I_of h ?_ rfl rfl rfl rfl
  intro f i
  unfold tm_ls
  split
  · rename_i z
    rw [z.1]
    exact ⟨Nat.zero_le _, hs⟩
  split
  · rename_i z
    rw [z.1]
    exact ⟨hk, hk5⟩
  split
  · rename_i z
    rw [z]
    exact ⟨Nat.zero_le _, hn i⟩
  split
  · rename_i z
    rw [z.1]
    exact ⟨by decide, by decide⟩
  · exact h.1 f i
theorem tm_J_ls {T : tm_T} {s k : Nat} {num : Nat → Nat} (h : tm_I T) (hs : s ≤ 3) (hk : 1 ≤ k) (hk5 : k ≤ 5) (hn : ∀ i, num i ≤ 99) : tm_J (tm_ls T s k num) := ⟨tm_I_ls h hs hk hk5 hn, fun _ => rfl⟩
/-- a sequence with one number, which is left out when it is 1 -/
def tm_n1 (n : Nat) : Nat := if n = 1 then 0 else n
theorem tm_n1_le {n : Nat} (h : n ≤ 99) : tm_n1 n ≤ 99 := by
  unfold tm_n1
  split <;> omega
theorem tm_n1_1 {n : Nat} (h : 1 ≤ n) : (if tm_n1 n = 0 then 1 else tm_n1 n) = n := by
  unfold tm_n1
  by_cases z : n = 1
  · rw [if_pos z, if_pos rfl, z]
  · rw [if_neg z, if_neg (by omega)]
def tm_X (T : tm_T) (n : Nat) : tm_T := tm_up (tm_ls T 0 1 (fun i => if i = 0 then tm_n1 n else 0)) 6 0 0
def tm_f1 (T : tm_T) (n b : Nat) : tm_T := tm_n0 (tm_lb2 1 (tm_X T n) b (tm_n1 n) n)
theorem tm_f1_rd {T : tm_T} {n b s : Nat} {num : Nat → Nat} (hN : tm_N T) (hs : 2 ≤ s) (hn : 1 ≤ n) (hb : tm_kn b) (hnum : num = fun i => if i = 0 then tm_n1 n else 0) : tm_rd 1 (tm_ls T s 1 num) b = tm_f1 T n b := by
  have hb' := hb
  unfold tm_kn at hb'
  rw [tm_rdZ hs (by omega) (by omega), tm_lbK hN (by decide) hb, hnum]
  show tm_n0 (tm_lb2 1 _ b (tm_n1 n) (if tm_n1 n = 0 then 1 else tm_n1 n)) = _
  rw [tm_n1_1 hn]
  rfl
theorem tm_I_X {T : tm_T} {n : Nat} (h : tm_I T) (hn : n ≤ 99) : tm_I (tm_X T n) := by
  refine tm_I_up (tm_I_ls h (by decide) (by decide) (by decide) (fun i => ?_)) (Nat.zero_le _) (Nat.zero_le _) (by decide) (by decide) (by decide) (by decide)
  have := tm_n1_le hn
  split <;> omega
theorem tm_f1_67 {T : tm_T} {n : Nat} (hQ : tm_Q T) (hn : T 5 0 + n ≤ 11) : tm_f1 T n 67 = tm_mv T (T 4 0) (T 5 0 + n) := by
  show tm_n0 (tm_mt (tm_X T n) (T 4 0) (tm_mn (T 5 0 + n) 11)) = _
  have e : tm_mn (T 5 0 + n) 11 = T 5 0 + n := by
    unfold tm_mn
    split <;> omega
  rw [e]
  exact tm_n0mv hQ.2.2.1 hQ.2.1.2.2.2.2.2
theorem tm_f1_68 {T : tm_T} {n : Nat} (hQ : tm_Q T) (hn : n ≤ T 5 0) : tm_f1 T n 68 = tm_mv T (T 4 0) (T 5 0 - n) := by
  show tm_n0 (tm_mt (tm_X T n) (T 4 0) (tm_mx (T 5 0) n 0)) = _
  have e : tm_mx (T 5 0) n 0 = T 5 0 - n := by
    unfold tm_mx
    split <;> omega
  rw [e]
  exact tm_n0mv hQ.2.2.1 hQ.2.1.2.2.2.2.2
theorem tm_cup {T : tm_T} {s r c : Nat} {num : Nat → Nat} (hQ : tm_Q T) (hs : 2 ≤ s) (hr : r < 6) (hc : c < 12) (h0 : num 0 = r + 1) (h1 : num 1 = c + 1) : tm_rd 1 (tm_ls T s 2 num) 72 = tm_mv T r c := by
  rw [tm_rdZ hs (by decide) (by decide), tm_lbK hQ.2.2.1 (by decide) (by decide), h0]
  show tm_n0 (tm_tr (tm_up (tm_ls T 0 2 num) 6 0 0) 72 (r + 1)) = _
  have en : tm_nm (tm_up (tm_ls T 0 2 num) 6 0 0) 1 = c + 1 := h1
  show tm_n0 (tm_mt (tm_up (tm_ls T 0 2 num) 6 0 0) (tm_mn (r + 1 - 1) 5) (if tm_nm (tm_up (tm_ls T 0 2 num) 6 0 0) 1 = 0 then 0 else tm_mn (tm_nm (tm_up (tm_ls T 0 2 num) 6 0 0) 1 - 1) 11)) = _
  rw [en, if_neg (by omega)]
  have e1 : tm_mn (r + 1 - 1) 5 = r := by
    unfold tm_mn
    split <;> omega
  have e2 : tm_mn (c + 1 - 1) 11 = c := by
    unfold tm_mn
    split <;> omega
  rw [e1, e2]
  exact tm_n0mv hQ.2.2.1 hQ.2.1.2.2.2.2.2
/-- plain bytes -/
theorem tm_rdP {t : Nat} {T : tm_T} {b : Nat} (hN : tm_N T) (h20 : T 20 0 = 0) (hb : 32 ≤ b) (hb2 : b ≤ 126) (h6 : T 6 0 = 0) (h10 : T 10 0 = 0) : tm_rd t T b = tm_ps9 T b (tm_ln T (T 4 0)) (T 5 0) := by
  have e : tm_me (T 20 0) b = 1 := by
    unfold tm_me
    rw [if_neg (by omega), if_pos h20, if_neg (by omega), if_neg (by omega)]
  unfold tm_rd
  rw [e]
  show tm_no (tm_ps t (tm_up T 20 0 0) b) = _
  rw [tm_up_same h20]
  unfold tm_ps
  rw [if_pos h6]
  unfold tm_ps3
  rw [if_pos h10]
  unfold tm_no
  rw [tm_z_ps9, if_neg (by omega)]
  refine tm_n0_same (fun i => ?_)
  unfold tm_ps9
  split <;> exact hN i
theorem tm_rdC {t : Nat} {T : tm_T} {b : Nat} (hN : tm_N T) (h20 : T 20 0 = 0) (hb : b = 8 ∨ b = 13) : tm_rd t T b = tm_up (tm_up T 6 0 0) 5 0 (if b = 8 then T 5 0 - 1 else 0) := by
  have e : tm_me (T 20 0) b = 2 := by
    unfold tm_me
    rw [if_neg (by omega), if_pos h20, if_pos (by omega), if_neg (by omega), if_neg (by omega)]
  unfold tm_rd
  rw [e]
  show tm_no (tm_ct t (tm_up T 20 0 0) b) = _
  rw [tm_up_same h20]
  have e2 : tm_ct t T b = tm_up (tm_up T 6 0 0) 5 0 (if b = 8 then T 5 0 - 1 else 0) := by
    rcases hb with rfl | rfl
    · rfl
    · rfl
  rw [e2]
  unfold tm_no
  rw [show tm_up (tm_up T 6 0 0) 5 0 (if b = 8 then T 5 0 - 1 else 0) 20 0 = T 20 0 from rfl, if_neg (by omega)]
  exact tm_n0_same (fun i => hN i)
theorem tm_mv_is {T : tm_T} {r c : Nat} (h4 : T 4 0 = r) (h5 : T 5 0 = c) (h6 : T 6 0 = 0) : tm_mv T r c = T := by
  unfold tm_mv tm_mt
  rw [tm_up_same h6, tm_up_same h4, tm_up_same h5]
theorem tm_mv_c {T : tm_T} {r c : Nat} (h4 : T 4 0 = r) : tm_up (tm_up T 6 0 0) 5 0 c = tm_mv T r c := by
  unfold tm_mv tm_mt
  rw [show tm_up (tm_up T 6 0 0) 4 0 r = tm_up T 6 0 0 from tm_up_same h4]
end
section
/-! what they make of the cells -/
theorem tm_put_1 {T : tm_T} {i s y j : Nat} : tm_put T i s y 1 j = if j = i then s else T 1 j := by
  unfold tm_put
  rw [tm_upF _ (by decide)]
  by_cases z : j = i
  · rw [z, tm_upS, if_pos rfl]
  · rw [tm_upI _ z, if_neg z]
theorem tm_put_2 {T : tm_T} {i s y j : Nat} : tm_put T i s y 2 j = if j = i then y else T 2 j := by
  unfold tm_put
  by_cases z : j = i
  · rw [z, tm_upS, if_pos rfl]
  · rw [tm_upI _ z, if_neg z, tm_upF _ (by decide)]
theorem tm_emp_1 {l n c j : Nat} {T : tm_T} : tm_emp l n c T 1 j = if l + c ≤ j ∧ j < l + c + n then 32 else T 1 j := by
  induction n generalizing c T with
  | zero =>
    rw [if_neg (by omega)]
    rfl
  | succ n ih =>
    refine ih.trans ?_
    rw [tm_put_1]
    by_cases z : l + (c + 1) ≤ j ∧ j < l + (c + 1) + n
    · rw [if_pos z, if_pos (by omega)]
    · rw [if_neg z]
      by_cases y : j = l + c
      · rw [if_pos y, if_pos (by omega)]
      · rw [if_neg y, if_neg (by omega)]
theorem tm_emp_2 {l n c j : Nat} {T : tm_T} : tm_emp l n c T 2 j = if l + c ≤ j ∧ j < l + c + n then 0 else T 2 j := by
  induction n generalizing c T with
  | zero =>
    rw [if_neg (by omega)]
    rfl
  | succ n ih =>
    refine ih.trans ?_
    rw [tm_put_2]
    by_cases z : l + (c + 1) ≤ j ∧ j < l + (c + 1) + n
    · rw [if_pos z, if_pos (by omega)]
    · rw [if_neg z]
      by_cases y : j = l + c
      · rw [if_pos y, if_pos (by omega)]
      · rw [if_neg y, if_neg (by omega)]
theorem tm_emp_f {l n c j : Nat} {T : tm_T} (h : j < l + c ∨ l + c + n ≤ j) : tm_emp l n c T 1 j = T 1 j ∧ tm_emp l n c T 2 j = T 2 j := by
  rw [tm_emp_1, tm_emp_2, if_neg (by omega), if_neg (by omega)]
  exact ⟨rfl, rfl⟩
theorem tm_cu_f {l k n c j : Nat} {T : tm_T} (h : j < l + c ∨ l + c + n ≤ j) : tm_cu l k n c T 1 j = T 1 j ∧ tm_cu l k n c T 2 j = T 2 j := by
  induction n generalizing c T with
  | zero => exact ⟨rfl, rfl⟩
  | succ n ih =>
    have i := ih (c := c + 1) (T := tm_cc T l (c + k) c) (by omega)
    have e1 : tm_cc T l (c + k) c 1 j = T 1 j := tm_put_1.trans (if_neg (by omega))
    have e2 : tm_cc T l (c + k) c 2 j = T 2 j := tm_put_2.trans (if_neg (by omega))
    exact ⟨i.1.trans e1, i.2.trans e2⟩
theorem tm_cd_f {l k n c j : Nat} {T : tm_T} (hn : n ≤ c + 1) (h : j + n < l + c + 1 ∨ l + c < j) : tm_cd l k n c T 1 j = T 1 j ∧ tm_cd l k n c T 2 j = T 2 j := by
  induction n generalizing c T with
  | zero => exact ⟨rfl, rfl⟩
  | succ n ih =>
    have e1 : tm_cc T l (c - k) c 1 j = T 1 j := tm_put_1.trans (if_neg (by omega))
    have e2 : tm_cc T l (c - k) c 2 j = T 2 j := tm_put_2.trans (if_neg (by omega))
    by_cases z : n = 0
    · subst z
      exact ⟨e1, e2⟩
    · have i := ih (c := c - 1) (T := tm_cc T l (c - k) c) (by omega) (by omega)
      exact ⟨i.1.trans e1, i.2.trans e2⟩
theorem tm_ln0 {T : tm_T} {r : Nat} (h : T 12 0 = 0) : tm_ln T r = T 3 r * 12 := by
  unfold tm_ln
  rw [h]
  congr 2
  omega
theorem tm_ln_of {T T' : tm_T} {r : Nat} (h3 : ∀ i, T' 3 i = T 3 i) (h12 : T' 12 0 = T 12 0) : tm_ln T' r = tm_ln T r := by
  unfold tm_ln
  rw [h12, h3]
theorem tm_far {T : tm_T} {r r' : Nat} (h : tm_Q T) (hr : r < 6) (hr' : r' < 6) (hd : r ≠ r') : tm_ln T r + 12 ≤ tm_ln T r' ∨ tm_ln T r' + 12 ≤ tm_ln T r := by
  rw [tm_ln0 h.2.1.2.2.2.2.1, tm_ln0 h.2.1.2.2.2.2.1]
  have : T 3 r ≠ T 3 r' := fun z => hd (h.2.2.2 r r' hr hr' z)
  omega
/-- the cells of which P is said are kept -/
def tm_kc (T T' : tm_T) (P : Nat → Nat → Prop) : Prop := ∀ r c, r < 6 → c < 12 → P r c → T' 1 (tm_ln T' r + c) = T 1 (tm_ln T r + c) ∧ T' 2 (tm_ln T' r + c) = T 2 (tm_ln T r + c)
theorem tm_kc_rt {A T T' : tm_T} {P : Nat → Nat → Prop} {r c : Nat} (h : tm_kc T T' P) (hr : r < 6) (hc : c < 12) (hP : P r c) (ht : tm_rt A T r c) : tm_rt A T' r c :=
  ⟨ht.1.trans (h r c hr hc hP).1.symm, ht.2.trans (h r c hr hc hP).2.symm⟩
theorem tm_kc_mv {T : tm_T} {r c : Nat} : tm_kc T (tm_mv T r c) (fun _ _ => True) := fun _ _ _ _ _ => ⟨rfl, rfl⟩
theorem tm_kc_pen {T : tm_T} {v : Nat} : tm_kc T (tm_up T 7 0 v) (fun _ _ => True) := fun _ _ _ _ _ => ⟨rfl, rfl⟩
theorem tm_Q_n0 {T Y : tm_T} (h : tm_Q T) (hI : tm_I Y) (h8 : Y 8 0 = T 8 0) (h9 : Y 9 0 = T 9 0) (h10 : Y 10 0 = T 10 0) (h11 : Y 11 0 = T 11 0) (h12 : Y 12 0 = T 12 0) (h20 : Y 20 0 = 0) (hi : ∀ r r', r < 6 → r' < 6 → Y 3 r = Y 3 r' → r = r') : tm_Q (tm_n0 Y) := by
  refine ⟨⟨tm_I_n0 hI, fun z => ?_⟩, ⟨h8.trans h.2.1.1, h9.trans h.2.1.2.1, h10.trans h.2.1.2.2.1, h11.trans h.2.1.2.2.2.1, h12.trans h.2.1.2.2.2.2.1, h20⟩, tm_N_n0 _, hi⟩
  have z' : 2 ≤ Y 20 0 := z
  omega
/-- cells taken out or put in -/
theorem tm_sc_o {T : tm_T} {b n g j : Nat} (h1 : g ≠ 1) (h2 : g ≠ 2) : tm_sc T b n g j = T g j := by
  unfold tm_sc
  split
  · exact (tm_ec_o h1 h2).trans (tm_cu_o h1 h2)
  · exact (tm_ec_o h1 h2).trans (tm_cd_o h1 h2)
theorem tm_sc_f {T : tm_T} {b n j : Nat} (h5 : T 5 0 < 12) (h : j < tm_ln T (T 4 0) + T 5 0 ∨ tm_ln T (T 4 0) + 12 ≤ j) : tm_sc T b n 1 j = T 1 j ∧ tm_sc T b n 2 j = T 2 j := by
  have hm := tm_mn_l n (12 - T 5 0)
  unfold tm_sc
  split
  · have e : tm_ln (tm_cu (tm_ln T (T 4 0)) (tm_mn n (12 - T 5 0)) (12 - tm_mn n (12 - T 5 0) - T 5 0) (T 5 0) T) (T 4 0) = tm_ln T (T 4 0) := tm_ln_of (fun _ => tm_cu_o (by decide) (by decide)) (tm_cu_o (by decide) (by decide))
    unfold tm_ec
    rw [e]
    have f1 := tm_emp_f (l := tm_ln T (T 4 0)) (n := 12 - (12 - tm_mn n (12 - T 5 0))) (c := 12 - tm_mn n (12 - T 5 0)) (j := j) (T := tm_cu (tm_ln T (T 4 0)) (tm_mn n (12 - T 5 0)) (12 - tm_mn n (12 - T 5 0) - T 5 0) (T 5 0) T) (by omega)
    have f2 := tm_cu_f (l := tm_ln T (T 4 0)) (k := tm_mn n (12 - T 5 0)) (n := 12 - tm_mn n (12 - T 5 0) - T 5 0) (c := T 5 0) (j := j) (T := T) (by omega)
    exact ⟨f1.1.trans f2.1, f1.2.trans f2.2⟩
  · have e : tm_ln (tm_cd (tm_ln T (T 4 0)) (tm_mn n (12 - T 5 0)) (12 - (T 5 0 + tm_mn n (12 - T 5 0))) 11 T) (T 4 0) = tm_ln T (T 4 0) := tm_ln_of (fun _ => tm_cd_o (by decide) (by decide)) (tm_cd_o (by decide) (by decide))
    unfold tm_ec
    rw [e]
    have f1 := tm_emp_f (l := tm_ln T (T 4 0)) (n := T 5 0 + tm_mn n (12 - T 5 0) - T 5 0) (c := T 5 0) (j := j) (T := tm_cd (tm_ln T (T 4 0)) (tm_mn n (12 - T 5 0)) (12 - (T 5 0 + tm_mn n (12 - T 5 0))) 11 T) (by omega)
    have f2 := tm_cd_f (l := tm_ln T (T 4 0)) (k := tm_mn n (12 - T 5 0)) (n := 12 - (T 5 0 + tm_mn n (12 - T 5 0))) (c := 11) (j := j) (T := T) (by omega) (by omega)
    exact ⟨f1.1.trans f2.1, f1.2.trans f2.2⟩
theorem tm_f1_sc {T : tm_T} {n b k : Nat} (hQ : tm_Q T) (hn : n ≤ 99) (he : tm_lb2 1 (tm_X T n) b (tm_n1 n) n = tm_sc (tm_X T n) k n) : tm_Q (tm_f1 T n b) ∧ tm_kc T (tm_f1 T n b) (fun r c => r ≠ T 4 0 ∨ c < T 5 0) := by
  have h4 := tm_b4 hQ.1.1.1 0
  have h5 := tm_b5 hQ.1.1.1 0
  unfold tm_f1
  rw [he]
  refine ⟨?_, ?_⟩
  · exact tm_Q_n0 hQ (tm_I_sc (tm_I_X hQ.1.1 hn)) (tm_sc_o (by decide) (by decide)) (tm_sc_o (by decide) (by decide)) (tm_sc_o (by decide) (by decide)) (tm_sc_o (by decide) (by decide)) (tm_sc_o (by decide) (by decide)) (tm_sc_o (by decide) (by decide)) (fun r r' hr hr' e => hQ.2.2.2 r r' hr hr' (by rw [tm_sc_o (by decide) (by decide), tm_sc_o (by decide) (by decide)] at e; exact e))
  · intro r c hr hc hP
    have el : tm_ln (tm_n0 (tm_sc (tm_X T n) k n)) r = tm_ln T r := tm_ln_of (fun i => (tm_sc_o (by decide) (by decide))) (tm_sc_o (by decide) (by decide))
    rw [el]
    have hf : tm_ln T r + c < tm_ln T (T 4 0) + T 5 0 ∨ tm_ln T (T 4 0) + 12 ≤ tm_ln T r + c := by
      by_cases z : r = T 4 0
      · rw [z] at hP ⊢
        rcases hP with y | y
        · exact absurd rfl y
        · omega
      · have := tm_far hQ hr (by omega) z
        omega
    exact tm_sc_f (T := tm_X T n) (show T 5 0 < 12 by omega) hf
theorem tm_f1_80 {T : tm_T} {n : Nat} (hQ : tm_Q T) (hn : n ≤ 99) : tm_Q (tm_f1 T n 80) ∧ tm_kc T (tm_f1 T n 80) (fun r c => r ≠ T 4 0 ∨ c < T 5 0) := tm_f1_sc (k := 0) hQ hn rfl
theorem tm_f1_64 {T : tm_T} {n : Nat} (hQ : tm_Q T) (hn : n ≤ 99) : tm_Q (tm_f1 T n 64) ∧ tm_kc T (tm_f1 T n 64) (fun r c => r ≠ T 4 0 ∨ c < T 5 0) := tm_f1_sc (k := 1) hQ hn rfl
/-- the end of a row emptied -/
theorem tm_f1_75 {T : tm_T} (hQ : tm_Q T) : tm_Q (tm_f1 T 1 75) ∧ tm_kc T (tm_f1 T 1 75) (fun r c => r ≠ T 4 0 ∨ c < T 5 0) ∧ ∀ c, T 5 0 ≤ c → c < 12 → tm_f1 T 1 75 1 (tm_ln (tm_f1 T 1 75) (T 4 0) + c) = 32 ∧ tm_f1 T 1 75 2 (tm_ln (tm_f1 T 1 75) (T 4 0) + c) = 0 := by
  have h4 := tm_b4 hQ.1.1.1 0
  have h5 := tm_b5 hQ.1.1.1 0
  have he : tm_f1 T 1 75 = tm_n0 (tm_ec (tm_X T 1) (T 4 0) (T 5 0) 12) := rfl
  have el : ∀ r, tm_ln (tm_n0 (tm_ec (tm_X T 1) (T 4 0) (T 5 0) 12)) r = tm_ln T r := fun r => tm_ln_of (fun i => (tm_ec_o (by decide) (by decide))) (tm_ec_o (by decide) (by decide))
  rw [he]
  refine ⟨?_, ?_, ?_⟩
  · exact tm_Q_n0 hQ (tm_I_ec (tm_I_X hQ.1.1 (by decide))) (tm_ec_o (by decide) (by decide)) (tm_ec_o (by decide) (by decide)) (tm_ec_o (by decide) (by decide)) (tm_ec_o (by decide) (by decide)) (tm_ec_o (by decide) (by decide)) (tm_ec_o (by decide) (by decide)) (fun r r' hr hr' e => hQ.2.2.2 r r' hr hr' (by rw [tm_ec_o (by decide) (by decide), tm_ec_o (by decide) (by decide)] at e; exact e))
  · intro r c hr hc hP
    rw [el]
    have hf : tm_ln T r + c < tm_ln T (T 4 0) + T 5 0 ∨ tm_ln T (T 4 0) + T 5 0 + (12 - T 5 0) ≤ tm_ln T r + c := by
      by_cases z : r = T 4 0
      · rw [z] at hP ⊢
        rcases hP with y | y
        · exact absurd rfl y
        · omega
      · have := tm_far hQ hr (by omega) z
        omega
    exact tm_emp_f (T := tm_X T 1) hf
  · intro c hc hc12
    rw [el]
    have i1 : tm_emp (tm_ln T (T 4 0)) (12 - T 5 0) (T 5 0) (tm_X T 1) 1 (tm_ln T (T 4 0) + c) = 32 := by
      rw [tm_emp_1, if_pos (by omega)]
    have i2 : tm_emp (tm_ln T (T 4 0)) (12 - T 5 0) (T 5 0) (tm_X T 1) 2 (tm_ln T (T 4 0) + c) = 0 := by
      rw [tm_emp_2, if_pos (by omega)]
    exact ⟨i1, i2⟩
/-- rows turned -/
theorem tm_tu_3 {T : tm_T} (h12 : T 12 0 = 0) : ∀ r, r < 6 → tm_tu T 0 5 3 r = T 3 ((r + 1) % 6) := by
  intro r hr
  unfold tm_tu
  rw [tm_ec_o (by decide) (by decide), h12]
  have hr' : r = 0 ∨ r = 1 ∨ r = 2 ∨ r = 3 ∨ r = 4 ∨ r = 5 := by omega
  rcases hr' with rfl | rfl | rfl | rfl | rfl | rfl <;> rfl
theorem tm_td_3 {T : tm_T} (h12 : T 12 0 = 0) : ∀ r, r < 6 → tm_td T 0 5 3 r = T 3 ((r + 5) % 6) := by
  intro r hr
  unfold tm_td
  rw [tm_ec_o (by decide) (by decide), h12]
  have hr' : r = 0 ∨ r = 1 ∨ r = 2 ∨ r = 3 ∨ r = 4 ∨ r = 5 := by omega
  rcases hr' with rfl | rfl | rfl | rfl | rfl | rfl <;> rfl
def tm_inj (T : tm_T) : Prop := ∀ r r', r < 6 → r' < 6 → T 3 r = T 3 r' → r = r'
theorem tm_su_inj {n : Nat} {T : tm_T} (h8 : T 8 0 = 0) (h9 : T 9 0 = 5) (h12 : T 12 0 = 0) (h : tm_inj T) : tm_inj (tm_su 1 n T) := by
  induction n generalizing T with
  | zero => exact h
  | succ n ih =>
    have e : tm_su1 1 T = tm_tu T 0 5 := by
      unfold tm_su1
      rw [if_neg (fun z => absurd z.1 (by decide)), h8, h9]
    show tm_inj (tm_su 1 n (tm_su1 1 T))
    rw [e]
    refine ih ((tm_tu_o (by decide) (by decide) (by decide)).trans h8) ((tm_tu_o (by decide) (by decide) (by decide)).trans h9) ((tm_tu_o (by decide) (by decide) (by decide)).trans h12) ?_
    intro r r' hr hr' q
    rw [tm_tu_3 h12 r hr, tm_tu_3 h12 r' hr'] at q
    have := h _ _ (by omega) (by omega) q
    omega
theorem tm_sd_inj {n : Nat} {T : tm_T} (h8 : T 8 0 = 0) (h9 : T 9 0 = 5) (h12 : T 12 0 = 0) (h : tm_inj T) : tm_inj (tm_sd n T) := by
  induction n generalizing T with
  | zero => exact h
  | succ n ih =>
    show tm_inj (tm_sd n (tm_td T (T 8 0) (T 9 0)))
    rw [h8, h9]
    refine ih ((tm_td_o (by decide) (by decide) (by decide)).trans h8) ((tm_td_o (by decide) (by decide) (by decide)).trans h9) ((tm_td_o (by decide) (by decide) (by decide)).trans h12) ?_
    intro r r' hr hr' q
    rw [tm_td_3 h12 r hr, tm_td_3 h12 r' hr'] at q
    have := h _ _ (by omega) (by omega) q
    omega
theorem tm_f1_83 {T : tm_T} {n : Nat} (hQ : tm_Q T) (hn : n ≤ 99) : tm_Q (tm_f1 T n 83) := by
  have he : tm_f1 T n 83 = tm_n0 (tm_su 1 n (tm_X T n)) := rfl
  rw [he]
  have o : ∀ g, g ≠ 1 → g ≠ 2 → g ≠ 3 → g ≠ 24 → g ≠ 25 → g ≠ 26 → tm_su 1 n (tm_X T n) g 0 = tm_X T n g 0 := fun g a b c d e f => tm_su_o a b c d e f
  exact tm_Q_n0 hQ (tm_I_su (tm_I_X hQ.1.1 hn)) (o 8 (by decide) (by decide) (by decide) (by decide) (by decide) (by decide)) (o 9 (by decide) (by decide) (by decide) (by decide) (by decide) (by decide)) (o 10 (by decide) (by decide) (by decide) (by decide) (by decide) (by decide)) (o 11 (by decide) (by decide) (by decide) (by decide) (by decide) (by decide)) (o 12 (by decide) (by decide) (by decide) (by decide) (by decide) (by decide)) (o 20 (by decide) (by decide) (by decide) (by decide) (by decide) (by decide)) (tm_su_inj (T := tm_X T n) hQ.2.1.1 hQ.2.1.2.1 hQ.2.1.2.2.2.2.1 hQ.2.2.2)
theorem tm_f1_84 {T : tm_T} {n : Nat} (hQ : tm_Q T) (hn : n ≤ 99) : tm_Q (tm_f1 T n 84) := by
  have he : tm_f1 T n 84 = tm_n0 (tm_sd n (tm_X T n)) := rfl
  rw [he]
  have o : ∀ g, g ≠ 1 → g ≠ 2 → g ≠ 3 → tm_sd n (tm_X T n) g 0 = tm_X T n g 0 := fun g a b c => tm_sd_o a b c
  exact tm_Q_n0 hQ (tm_I_sd (tm_I_X hQ.1.1 hn)) (o 8 (by decide) (by decide) (by decide)) (o 9 (by decide) (by decide) (by decide)) (o 10 (by decide) (by decide) (by decide)) (o 11 (by decide) (by decide) (by decide)) (o 12 (by decide) (by decide) (by decide)) (o 20 (by decide) (by decide) (by decide)) (tm_sd_inj (T := tm_X T n) hQ.2.1.1 hQ.2.1.2.1 hQ.2.1.2.2.2.2.1 hQ.2.2.2)
/-- a sign written -/
theorem tm_Q_ps9 {T : tm_T} {b : Nat} (hQ : tm_Q T) (hb : 32 ≤ b) (hb2 : b ≤ 126) : tm_Q (tm_ps9 T b (tm_ln T (T 4 0)) (T 5 0)) := by
  have hi := tm_I_ps9 (b := b) (l := tm_ln T (T 4 0)) (c := T 5 0) hQ.1.1 hb hb2 (fun z => z)
  have e : ∀ g, g ≠ 1 → g ≠ 2 → g ≠ 5 → g ≠ 6 → ∀ i, tm_ps9 T b (tm_ln T (T 4 0)) (T 5 0) g i = T g i := by
    intro g z1 z2 z5 z6 i
    unfold tm_ps9 tm_put
    split
    · rw [tm_upF _ z6, tm_upF _ z2, tm_upF _ z1]
    · rw [tm_upF _ z5, tm_upF _ z2, tm_upF _ z1]
  refine ⟨⟨hi, ?_⟩, ?_, ?_, ?_⟩
  · rw [e 20 (by decide) (by decide) (by decide) (by decide), e 27 (by decide) (by decide) (by decide) (by decide)]
    exact hQ.1.2
  · rw [e 8 (by decide) (by decide) (by decide) (by decide), e 9 (by decide) (by decide) (by decide) (by decide), e 10 (by decide) (by decide) (by decide) (by decide), e 11 (by decide) (by decide) (by decide) (by decide), e 12 (by decide) (by decide) (by decide) (by decide), e 20 (by decide) (by decide) (by decide) (by decide)]
    exact hQ.2.1
  · intro i
    rw [e 21 (by decide) (by decide) (by decide) (by decide), e 22 (by decide) (by decide) (by decide) (by decide), e 23 (by decide) (by decide) (by decide) (by decide), e 27 (by decide) (by decide) (by decide) (by decide)]
    exact hQ.2.2.1 i
  · intro r r'
    rw [e 3 (by decide) (by decide) (by decide) (by decide), e 3 (by decide) (by decide) (by decide) (by decide)]
    exact hQ.2.2.2 r r'
theorem tm_ps9_put {T : tm_T} {b l c g i : Nat} (z5 : g ≠ 5) (z6 : g ≠ 6) : tm_ps9 T b l c g i = tm_put T (l + c) b (T 7 0) g i := by
  unfold tm_ps9
  split
  · exact tm_upF _ z6
  · exact tm_upF _ z5
theorem tm_ps9_ln {T : tm_T} {b l c r : Nat} : tm_ln (tm_ps9 T b l c) r = tm_ln T r :=
  tm_ln_of (fun i => (tm_ps9_put (by decide) (by decide)).trans rfl) ((tm_ps9_put (by decide) (by decide)).trans rfl)
theorem tm_kc_ps9 {T : tm_T} {b : Nat} (hQ : tm_Q T) : tm_kc T (tm_ps9 T b (tm_ln T (T 4 0)) (T 5 0)) (fun r c => r ≠ T 4 0 ∨ c ≠ T 5 0) := by
  have h4 := tm_b4 hQ.1.1.1 0
  have h5 := tm_b5 hQ.1.1.1 0
  intro r c hr hc hP
  rw [tm_ps9_ln, tm_ps9_put (by decide) (by decide), tm_ps9_put (by decide) (by decide), tm_put_1, tm_put_2]
  have hf : tm_ln T r + c ≠ tm_ln T (T 4 0) + T 5 0 := by
    by_cases z : r = T 4 0
    · rw [z] at hP ⊢
      rcases hP with y | y
      · exact absurd rfl y
      · omega
    · have := tm_far hQ hr (by omega) z
      omega
  rw [if_neg hf, if_neg hf]
  exact ⟨rfl, rfl⟩
theorem tm_ps9_at {T : tm_T} {b l c : Nat} : tm_ps9 T b l c 1 (l + c) = b ∧ tm_ps9 T b l c 2 (l + c) = T 7 0 := by
  rw [tm_ps9_put (by decide) (by decide), tm_ps9_put (by decide) (by decide), tm_put_1, tm_put_2, if_pos rfl, if_pos rfl]
  exact ⟨rfl, rfl⟩
end
section
/-! sending -/
theorem tm_send {post : St1 → Prop} {u : St1} {b : Nat} {A T : tm_T} (h : tm_E u A T) (hJ : tm_J T) (hb : b < 128) (hp : ∀ u', tm_E u' A (tm_rd 1 T b) → post u') : wpX_send post u (nI b) := by
  obtain ⟨at_, kc, kn, a1, a2, a3, a4, a5, a6, a7, a8, a9, a10, a11, a12, a13, a14, a15, a16, a17, a18, a19, a20, a21, a22, a23, a24⟩ := u
  unfold wpX_send
  exact tm_read (t := 1) h.2 h.1 (by decide) hJ hb (fun u' h' => by obtain ⟨at_, kc, kn, a1, a2, a3, a4, a5, a6, a7, a8, a9, a10, a11, a12, a13, a14, a15, a16, a17, a18, a19, a20, a21, a22, a23, a24⟩ := u'; exact hp _ (tm_E1 h'))
theorem tm_sN17 {post : St1 → Prop} {n : Nat} {A T : tm_T} {at_ kc kn a1 a2 a3 a4 a5 a6 a7 a8 a9 a10 a11 a12 a13 a14 a15 a16 a17 a18 a19 a20 a21 a22 a23 a24} (h : tm_E (at_, kc, kn, a1, a2, a3, a4, a5, a6, a7, a8, a9, a10, a11, a12, a13, a14, a15, a16, a17, a18, a19, a20, a21, a22, a23, a24) A T) (hJ : tm_J T) (hn : n ≤ 99) (hp : ∀ u', tm_E u' A (tm_rd 1 T (48 + n % 10)) → post u') : wX_sendNumber_17 post (nI n) at_ kc kn a1 a2 a3 a4 a5 a6 a7 a8 a9 a10 a11 a12 a13 a14 a15 a16 a17 a18 a19 a20 a21 a22 a23 a24 := by
  have e : 48 + (nI n - nI n / 10 * 10) = nI (48 + n % 10) := by
    rw [show (10 : Int32) = nI 10 from rfl, pk_rem (by omega) (by decide) (by decide), show (48 : Int32) = nI 48 from rfl, nI_add]
  refine (And.intro (by decide) (?_))
  rw [e]
  exact tm_send h hJ (by omega) (fun u' h' => by obtain ⟨at_, kc, kn, a1, a2, a3, a4, a5, a6, a7, a8, a9, a10, a11, a12, a13, a14, a15, a16, a17, a18, a19, a20, a21, a22, a23, a24⟩ := u'; exact hp _ h')
theorem tm_sendNumber {post : St1 → Prop} {u : St1} {n s k : Nat} {num : Nat → Nat} {A T : tm_T} (h : tm_E u A (tm_ls T s k num)) (hI : tm_I T) (hs : 2 ≤ s) (hs3 : s ≤ 3) (hk : 1 ≤ k) (hk4 : k ≤ 4) (hnum : ∀ i, num i ≤ 99) (hz : num (k - 1) = 0) (hn : n ≤ 99) (hp : ∀ u', tm_E u' A (tm_ls T 3 k (fun i => if i = k - 1 then n else num i)) → post u') : wpX_sendNumber post u (nI n) := by
  obtain ⟨at_, kc, kn, a1, a2, a3, a4, a5, a6, a7, a8, a9, a10, a11, a12, a13, a14, a15, a16, a17, a18, a19, a20, a21, a22, a23, a24⟩ := u
  have hJ : tm_J (tm_ls T s k num) := tm_J_ls hI hs3 hk (by omega) hnum
  refine pk_lt n 10 (fun z => ?_) (fun z => ?_)
  · have e : tm_rd 1 (tm_ls T s k num) (48 + n % 10) = tm_ls T 3 k (fun i => if i = k - 1 then n else num i) := by
      rw [tm_rdD hs hk4 (by omega) (by omega) (by rw [hz]; omega)]
      have e' : 10 * num (k - 1) + (48 + n % 10 - 48) = n := by
        rw [hz]
        omega
      rw [e']
    exact tm_sN17 h hJ hn (by rw [e]; exact hp)
  · have e0 : 48 + nI n / 10 = nI (48 + n / 10) := by
      rw [show (10 : Int32) = nI 10 from rfl, pk_div (by omega) (by decide) (by decide), show (48 : Int32) = nI 48 from rfl, nI_add]
    have e1 : tm_rd 1 (tm_ls T s k num) (48 + n / 10) = tm_ls T 3 k (fun i => if i = k - 1 then n / 10 else num i) := by
      rw [tm_rdD hs hk4 (by omega) (by omega) (by rw [hz]; omega)]
      have e' : 10 * num (k - 1) + (48 + n / 10 - 48) = n / 10 := by
        rw [hz]
        omega
      rw [e']
    have e2 : tm_rd 1 (tm_ls T 3 k (fun i => if i = k - 1 then n / 10 else num i)) (48 + n % 10) = tm_ls T 3 k (fun i => if i = k - 1 then n else num i) := by
      rw [tm_rdD (s := 3) (num := fun i => if i = k - 1 then n / 10 else num i) (by decide) hk4 (by omega) (by omega) (by rw [if_pos rfl]; omega)]
      congr 1
      funext i
      by_cases y : i = k - 1
      · rw [if_pos y, if_pos y, if_pos rfl]
        omega
      · rw [if_neg y, if_neg y, if_neg y]
    refine (And.intro (by decide) (?_))
    rw [e0]
    refine tm_send h hJ (by omega) ?_
    intro u1 h1
    obtain ⟨at_, kc, kn, a1, a2, a3, a4, a5, a6, a7, a8, a9, a10, a11, a12, a13, a14, a15, a16, a17, a18, a19, a20, a21, a22, a23, a24⟩ := u1
    rw [e1] at h1
    have hJ1 : tm_J (tm_ls T 3 k (fun i => if i = k - 1 then n / 10 else num i)) := by
      refine tm_J_ls hI (by decide) hk (by omega) (fun i => ?_)
      have := hnum i
      try dsimp only
      split <;> omega
    exact tm_sN17 h1 hJ1 hn (by rw [e2]; exact hp)
theorem tm_J_e1 {T : tm_T} (hQ : tm_Q T) : tm_J (tm_up T 20 0 1) := by
  have := tm_J_rd (t := 1) (b := 27) hQ.1
  rw [tm_rd27 hQ.2.2.1] at this
  exact this
theorem tm_f1_E {u : St1} {A T : tm_T} {n b s : Nat} {num : Nat → Nat} (h : tm_E u A (tm_rd 1 (tm_ls T s 1 num) b)) (hN : tm_N T) (hs : 2 ≤ s) (hn : 1 ≤ n) (hb : tm_kn b) (hnum : num = fun i => if i = 0 then tm_n1 n else 0) : tm_E u A (tm_f1 T n b) := by
  rw [tm_f1_rd hN hs hn hb hnum] at h
  exact h
theorem tm_cup_E {u : St1} {A T : tm_T} {s r c : Nat} {num : Nat → Nat} (h : tm_E u A (tm_rd 1 (tm_ls T s 2 num) 72)) (hQ : tm_Q T) (hs : 2 ≤ s) (hr : r < 6) (hc : c < 12) (h0 : num 0 = r + 1) (h1 : num 1 = c + 1) : tm_E u A (tm_mv T r c) := by
  rw [tm_cup hQ hs hr hc h0 h1] at h
  exact h
theorem tm_sendOne {post : St1 → Prop} {u : St1} {n b : Nat} {A T : tm_T} (h : tm_E u A T) (hQ : tm_Q T) (hn1 : 1 ≤ n) (hn : n ≤ 99) (hb : tm_kn b) (hp : ∀ u', tm_E u' A (tm_f1 T n b) → post u') : wpX_sendOne post u (nI n) (nI b) := by
  obtain ⟨at_, kc, kn, a1, a2, a3, a4, a5, a6, a7, a8, a9, a10, a11, a12, a13, a14, a15, a16, a17, a18, a19, a20, a21, a22, a23, a24⟩ := u
  have hb' : b < 128 := by
    unfold tm_kn at hb
    omega
  unfold wpX_sendOne
  refine tm_send (b := 27) h hQ.1 (by decide) ?_
  intro u1 h1
  obtain ⟨at_, kc, kn, a1, a2, a3, a4, a5, a6, a7, a8, a9, a10, a11, a12, a13, a14, a15, a16, a17, a18, a19, a20, a21, a22, a23, a24⟩ := u1
  rw [tm_rd27 hQ.2.2.1] at h1
  refine tm_send (b := 91) h1 (tm_J_e1 hQ) (by decide) ?_
  intro u2 h2
  obtain ⟨at_, kc, kn, a1, a2, a3, a4, a5, a6, a7, a8, a9, a10, a11, a12, a13, a14, a15, a16, a17, a18, a19, a20, a21, a22, a23, a24⟩ := u2
  rw [tm_rd91 hQ.2.2.1] at h2
  refine pk_eq n 1 (fun z => ?_) (fun z => ?_)
  · unfold wX_sendOne_22
    refine tm_send h2 (tm_J_ls hQ.1.1 (by decide) (by decide) (by decide) (fun _ => by decide)) hb' ?_
    intro u3 h3
    obtain ⟨at_, kc, kn, a1, a2, a3, a4, a5, a6, a7, a8, a9, a10, a11, a12, a13, a14, a15, a16, a17, a18, a19, a20, a21, a22, a23, a24⟩ := u3
    exact hp _ (tm_f1_E h3 hQ.2.2.1 (by decide) hn1 hb (by funext i; rw [z]; split <;> rfl))
  · refine tm_sendNumber h2 hQ.1.1 (by decide) (by decide) (by decide) (by decide) (fun _ => by decide) rfl hn ?_
    intro u3 h3
    obtain ⟨at_, kc, kn, a1, a2, a3, a4, a5, a6, a7, a8, a9, a10, a11, a12, a13, a14, a15, a16, a17, a18, a19, a20, a21, a22, a23, a24⟩ := u3
    unfold wX_sendOne_22
    refine tm_send h3 (tm_J_ls hQ.1.1 (by decide) (by decide) (by decide) (fun i => by (try dsimp only); split <;> omega)) hb' ?_
    intro u4 h4
    obtain ⟨at_, kc, kn, a1, a2, a3, a4, a5, a6, a7, a8, a9, a10, a11, a12, a13, a14, a15, a16, a17, a18, a19, a20, a21, a22, a23, a24⟩ := u4
    exact hp _ (tm_f1_E h4 hQ.2.2.1 (by decide) hn1 hb (by funext i; unfold tm_n1; rw [if_neg z]))
/-! the cursor goes -/
theorem tm_sM105 {post : St1 → Prop} {r c d f : Nat} {A T : tm_T} {at_ kc kn a1 a2 a3 a4 a5 a6 a7 a8 a9 a10 a11 a12 a13 a14 a15 a16 a17 a18 a19 a20 a21 a22 a23 a24} (h : tm_E (at_, kc, kn, a1, a2, a3, a4, a5, a6, a7, a8, a9, a10, a11, a12, a13, a14, a15, a16, a17, a18, a19, a20, a21, a22, a23, a24) A T) (hQ : tm_Q T) (hr : r < 6) (hc : c < 12) (hd : d = T 5 0) (hf : f < 2) (hf1 : f = 1 → T 4 0 = r ∧ c < d) (hp : ∀ u', tm_E u' A (tm_mv T r c) → post u') : wX_sendMove_105 post (nI r) (nI c) (nI d) (nI f) at_ kc kn a1 a2 a3 a4 a5 a6 a7 a8 a9 a10 a11 a12 a13 a14 a15 a16 a17 a18 a19 a20 a21 a22 a23 a24 := by
  have h5 := tm_b5 hQ.1.1.1 0
  refine pk_eq f 0 (fun z => ?_) (fun z => ?_)
  · refine tm_send (b := 27) h hQ.1 (by decide) ?_
    intro u1 h1
    obtain ⟨at_, kc, kn, a1, a2, a3, a4, a5, a6, a7, a8, a9, a10, a11, a12, a13, a14, a15, a16, a17, a18, a19, a20, a21, a22, a23, a24⟩ := u1
    rw [tm_rd27 hQ.2.2.1] at h1
    refine tm_send (b := 91) h1 (tm_J_e1 hQ) (by decide) ?_
    intro u2 h2
    obtain ⟨at_, kc, kn, a1, a2, a3, a4, a5, a6, a7, a8, a9, a10, a11, a12, a13, a14, a15, a16, a17, a18, a19, a20, a21, a22, a23, a24⟩ := u2
    rw [tm_rd91 hQ.2.2.1] at h2
    have er : nI r + 1 = nI (r + 1) := nI_1 r
    have ec : nI c + 1 = nI (c + 1) := nI_1 c
    rw [er]
    refine tm_sendNumber h2 hQ.1.1 (by decide) (by decide) (by decide) (by decide) (fun _ => by decide) rfl (by omega) ?_
    intro u3 h3
    obtain ⟨at_, kc, kn, a1, a2, a3, a4, a5, a6, a7, a8, a9, a10, a11, a12, a13, a14, a15, a16, a17, a18, a19, a20, a21, a22, a23, a24⟩ := u3
    have g3 : tm_J (tm_ls T 3 1 (fun i => if i = 1 - 1 then r + 1 else 0)) := tm_J_ls hQ.1.1 (by decide) (by decide) (by decide) (fun i => by (try dsimp only); split <;> omega)
    refine tm_send (b := 59) h3 g3 (by decide) ?_
    intro u4 h4
    obtain ⟨at_, kc, kn, a1, a2, a3, a4, a5, a6, a7, a8, a9, a10, a11, a12, a13, a14, a15, a16, a17, a18, a19, a20, a21, a22, a23, a24⟩ := u4
    rw [tm_rd59 (s := 3) (k := 1) (by decide) (by decide)] at h4
    rw [ec]
    refine tm_sendNumber h4 hQ.1.1 (by decide) (by decide) (by decide) (by decide) (fun i => by (try dsimp only); (repeat' split) <;> omega) rfl (by omega) ?_
    intro u5 h5
    obtain ⟨at_, kc, kn, a1, a2, a3, a4, a5, a6, a7, a8, a9, a10, a11, a12, a13, a14, a15, a16, a17, a18, a19, a20, a21, a22, a23, a24⟩ := u5
    refine tm_send (b := 72) h5 (tm_J_ls hQ.1.1 (by decide) (by decide) (by decide) (fun i => by (try dsimp only); (repeat' split) <;> omega)) (by decide) ?_
    intro u6 h6
    obtain ⟨at_, kc, kn, a1, a2, a3, a4, a5, a6, a7, a8, a9, a10, a11, a12, a13, a14, a15, a16, a17, a18, a19, a20, a21, a22, a23, a24⟩ := u6
    exact hp _ (tm_cup_E h6 hQ (by decide) hr hc rfl rfl)
  · have g := hf1 (by omega)
    have e : nI d - nI c = nI (d - c) := pk_sub (by omega)
    rw [e]
    refine tm_sendOne h hQ (by omega) (by omega) (b := 68) (by decide) ?_
    intro u1 h1
    obtain ⟨at_, kc, kn, a1, a2, a3, a4, a5, a6, a7, a8, a9, a10, a11, a12, a13, a14, a15, a16, a17, a18, a19, a20, a21, a22, a23, a24⟩ := u1
    rw [tm_f1_68 hQ (by omega), g.1, show T 5 0 - (d - c) = c by omega] at h1
    exact hp _ h1
theorem tm_sM31 {post : St1 → Prop} {r c d f : Nat} {A T : tm_T} {at_ kc kn a1 a2 a3 a4 a5 a6 a7 a8 a9 a10 a11 a12 a13 a14 a15 a16 a17 a18 a19 a20 a21 a22 a23 a24} (h : tm_E (at_, kc, kn, a1, a2, a3, a4, a5, a6, a7, a8, a9, a10, a11, a12, a13, a14, a15, a16, a17, a18, a19, a20, a21, a22, a23, a24) A T) (hQ : tm_Q T) (hr : r < 6) (hc : c < 12) (hd : d = T 5 0) (hf : f < 2) (hf1 : f = 1 → T 4 0 = r ∧ T 6 0 = 0) (hp : ∀ u', tm_E u' A (tm_mv T r c) → post u') : wX_sendMove_31 post (nI r) (nI c) (nI d) (nI f) at_ kc kn a1 a2 a3 a4 a5 a6 a7 a8 a9 a10 a11 a12 a13 a14 a15 a16 a17 a18 a19 a20 a21 a22 a23 a24 := by
  have h5 := tm_b5 hQ.1.1.1 0
  have h20 := hQ.2.1.2.2.2.2.2
  have g105 : (f = 1 → c < d) → wX_sendMove_105 post (nI r) (nI c) (nI d) (nI f) at_ kc kn a1 a2 a3 a4 a5 a6 a7 a8 a9 a10 a11 a12 a13 a14 a15 a16 a17 a18 a19 a20 a21 a22 a23 a24 := fun g => tm_sM105 h hQ hr hc hd hf (fun z => ⟨(hf1 z).1, g z⟩) hp
  have g83 : (f = 1 → c ≠ d) → wX_sendMove_83 post (nI r) (nI c) (nI d) (nI f) at_ kc kn a1 a2 a3 a4 a5 a6 a7 a8 a9 a10 a11 a12 a13 a14 a15 a16 a17 a18 a19 a20 a21 a22 a23 a24 := by
    intro g
    refine pk_eq f 0 (fun z => g105 (fun w => absurd w (by omega))) (fun z => pk_le c d (fun y => g105 (fun w => by have := g w; omega)) (fun y => ?_))
    have e : nI c - nI d = nI (c - d) := pk_sub (by omega)
    rw [e]
    refine tm_sendOne h hQ (by omega) (by omega) (b := 67) (by decide) ?_
    intro u1 h1
    obtain ⟨at_, kc, kn, a1, a2, a3, a4, a5, a6, a7, a8, a9, a10, a11, a12, a13, a14, a15, a16, a17, a18, a19, a20, a21, a22, a23, a24⟩ := u1
    rw [tm_f1_67 hQ (by omega), (hf1 (by omega)).1, show T 5 0 + (c - d) = c by omega] at h1
    exact hp _ h1
  have g62 : (f = 1 → c ≠ d) → wX_sendMove_62 post (nI r) (nI c) (nI d) (nI f) at_ kc kn a1 a2 a3 a4 a5 a6 a7 a8 a9 a10 a11 a12 a13 a14 a15 a16 a17 a18 a19 a20 a21 a22 a23 a24 := by
    intro g
    refine pk_eq f 0 (fun z => g83 g) (fun z => br_c (fun y => ?_) (fun _ => g83 g))
    have y' : d ≠ 0 ∧ c = d - 1 := by
      by_cases w : d = 0
      · rw [w] at y
        have : ∀ k, k < 12 → ¬ nI k = nI 0 - 1 := by decide +kernel
        exact absurd y (this c hc)
      · have e : nI d - 1 = nI (d - 1) := pk_sub (b := 1) (by omega)
        rw [e, nI_eq (by omega) (by omega)] at y
        exact ⟨w, y⟩
    refine tm_send (b := 8) h hQ.1 (by decide) ?_
    intro u1 h1
    obtain ⟨at_, kc, kn, a1, a2, a3, a4, a5, a6, a7, a8, a9, a10, a11, a12, a13, a14, a15, a16, a17, a18, a19, a20, a21, a22, a23, a24⟩ := u1
    rw [tm_rdC hQ.2.2.1 h20 (Or.inl rfl), if_pos rfl, tm_mv_c (hf1 (by omega)).1, show T 5 0 - 1 = c by omega] at h1
    exact hp _ h1
  have g44 : (f = 1 → c ≠ d) → wX_sendMove_44 post (nI r) (nI c) (nI d) (nI f) at_ kc kn a1 a2 a3 a4 a5 a6 a7 a8 a9 a10 a11 a12 a13 a14 a15 a16 a17 a18 a19 a20 a21 a22 a23 a24 := by
    intro g
    refine pk_eq f 0 (fun z => g62 g) (fun z => pk_eq c 0 (fun y => ?_) (fun _ => g62 g))
    refine tm_send (b := 13) h hQ.1 (by decide) ?_
    intro u1 h1
    obtain ⟨at_, kc, kn, a1, a2, a3, a4, a5, a6, a7, a8, a9, a10, a11, a12, a13, a14, a15, a16, a17, a18, a19, a20, a21, a22, a23, a24⟩ := u1
    rw [tm_rdC hQ.2.2.1 h20 (Or.inr rfl), if_neg (by decide), tm_mv_c (hf1 (by omega)).1, show 0 = c by omega] at h1
    exact hp _ h1
  refine pk_eq f 0 (fun z => g44 (fun w => absurd w (by omega))) (fun z => pk_eq d c (fun y => ?_) (fun y => g44 (fun _ w => y w.symm)))
  have g := hf1 (by omega)
  have e := tm_mv_is g.1 (show T 5 0 = c by omega) g.2
  rw [e] at hp
  exact hp _ h
theorem tm_sendMove {post : St1 → Prop} {u : St1} {r c : Nat} {A T : tm_T} (h : tm_E u A T) (hQ : tm_Q T) (hr : r < 6) (hc : c < 12) (hp : ∀ u', tm_E u' A (tm_mv T r c) → post u') : wpX_sendMove post u (nI r) (nI c) := by
  obtain ⟨at_, kc, kn, a1, a2, a3, a4, a5, a6, a7, a8, a9, a10, a11, a12, a13, a14, a15, a16, a17, a18, a19, a20, a21, a22, a23, a24⟩ := u
  have h4 := tm_b4 hQ.1.1.1 0
  have h6 := tm_b6 hQ.1.1.1 0
  have z30 : wX_sendMove_30 post (nI r) (nI c) (nI (T 5 0)) at_ kc kn a1 a2 a3 a4 a5 a6 a7 a8 a9 a10 a11 a12 a13 a14 a15 a16 a17 a18 a19 a20 a21 a22 a23 a24 := tm_sM31 (f := 0) h hQ hr hc rfl (by decide) (fun z => absurd z (by decide)) hp
  refine nm_r (tm_s5 h.2) (pk_eq (T 4 0) r (fun z => pk_eq (T 6 0) 0 (fun y => ?_) (fun y => z30) (tm_s6 h.2) rfl) (fun z => z30) (tm_s4 h.2) rfl)
  exact tm_sM31 (f := 1) h hQ hr hc rfl (by decide) (fun _ => ⟨z, y⟩) hp
/-! the pen -/
def tm_fd (num : Nat → Nat) : Nat → Nat → Nat → Nat
  | 0, _, v => v
  | n + 1, i, v => tm_fd num n (i + 1) (tm_pn v (num i))
theorem tm_up_up {T : tm_T} {f i v w : Nat} : tm_up (tm_up T f i v) f i w = tm_up T f i w := by
  funext g j
  unfold tm_up
  split <;> rfl
theorem tm_cpL_fd {n i : Nat} {T : tm_T} : tm_cpL n i T = tm_up T 7 0 (tm_fd (T 23) n i (T 7 0)) := by
  induction n generalizing i T with
  | zero => exact (tm_up_same rfl).symm
  | succ n ih =>
    show tm_cpL n (i + 1) (tm_up T 7 0 (tm_pn (T 7 0) (T 23 i))) = _
    rw [ih, tm_up_up]
    rfl
theorem tm_fd_s {num : Nat → Nat} {n i v : Nat} : tm_fd num (n + 1) i v = tm_pn (tm_fd num n i v) (num (i + n)) := by
  induction n generalizing i v with
  | zero => rfl
  | succ n ih =>
    show tm_fd num (n + 1) (i + 1) (tm_pn v (num i)) = _
    rw [ih]
    show _ = tm_pn (tm_fd num n (i + 1) (tm_pn v (num i))) (num (i + (n + 1)))
    rw [show i + 1 + n = i + (n + 1) by omega]
theorem tm_fd_c {num num' : Nat → Nat} {n i v : Nat} (h : ∀ j, j < i + n → num j = num' j) : tm_fd num n i v = tm_fd num' n i v := by
  induction n generalizing i v with
  | zero => rfl
  | succ n ih =>
    show tm_fd num n (i + 1) (tm_pn v (num i)) = tm_fd num' n (i + 1) (tm_pn v (num' i))
    rw [h i (by omega)]
    exact ih (fun j hj => h j (by omega))
theorem tm_rd109 {T : tm_T} {s k : Nat} {num : Nat → Nat} (hQ : tm_Q T) (hs : 2 ≤ s) (hk4 : k ≤ 4) : tm_rd 1 (tm_ls T s k num) 109 = tm_up T 7 0 (tm_fd num k 0 (T 7 0)) := by
  have hN := hQ.2.2.1
  have h20 := hQ.2.1.2.2.2.2.2
  rw [tm_rdZ hs (by decide) (by decide)]
  have e1 : tm_lb 1 (tm_ls T 0 k num) 109 = tm_cp (tm_ls T 0 k num) := by
    unfold tm_lb
    rw [if_pos (show tm_ls T 0 k num 21 0 = 0 from (hN 0).1), if_pos rfl]
  have e2 : tm_mn k 4 = k := by
    unfold tm_mn
    split <;> omega
  have e3 : tm_cp (tm_ls T 0 k num) = tm_up (tm_ls T 0 k num) 7 0 (tm_fd num k 0 (T 7 0)) := by
    unfold tm_cp
    show tm_cpL (tm_mn k 4) 0 (tm_ls T 0 k num) = _
    rw [tm_cpL_fd, e2]
    rfl
  rw [e1, e3]
  refine tm_ext5 (fun i => ?_) (fun i => (hN i).1.symm) (fun i => (hN i).2.1.symm) (fun i => (hN i).2.2.1.symm) (fun i => (hN i).2.2.2.symm) (fun f i z0 z1 z2 z3 z7 => ?_)
  · show tm_ls T 0 k num 20 i = T 20 i
    by_cases z : i = 0
    · rw [z, h20]
      rfl
    · unfold tm_ls
      rw [if_neg (fun q => z q.2)]
      rfl
  · rw [tm_n0_o z1 z2 z3 z7]
    unfold tm_up
    rw [tm_ls_o z0 z2 z3 z7]
def tm_mix (h p i : Nat) : Nat := if i = 0 then h else if i = 1 then (h &&& 6) ||| (p &&& 1) else if i = 2 then (h &&& 4) ||| (p &&& 3) else p
def tm_pnum (i : Nat) (b : Bool) : Nat := if b then 1 + 3 * i else 21 + (1 + 3 * i) - (if i = 0 then 0 else 1)
theorem tm_pA1 : ∀ h, h < 8 → ∀ p, p < 8 → ∀ i, i < 3 → ((nI h ^^^ nI p) &&& ((1 : Int32) <<< (nI i &&& 31))) = 0 → tm_mix h p (i + 1) = tm_mix h p i := by decide +kernel
theorem tm_pA2 : ∀ h, h < 8 → ∀ p, p < 8 → ∀ i, i < 3 → ¬ ((nI h ^^^ nI p) &&& ((1 : Int32) <<< (nI i &&& 31))) = 0 → (nI p &&& ((1 : Int32) <<< (nI i &&& 31))) = 0 → tm_pn (tm_mix h p i) (tm_pnum i false) = tm_mix h p (i + 1) := by decide +kernel
theorem tm_pA3 : ∀ h, h < 8 → ∀ p, p < 8 → ∀ i, i < 3 → ((nI h ^^^ nI p) &&& ((1 : Int32) <<< (nI i &&& 31))) = 0 ∨ (nI p &&& ((1 : Int32) <<< (nI i &&& 31))) = 0 ∨ tm_pn (tm_mix h p i) (tm_pnum i true) = tm_mix h p (i + 1) := by decide +kernel
theorem tm_pA {h p i : Nat} (hh : h < 8) (hp : p < 8) (hi : i < 3) : (((nI h ^^^ nI p) &&& ((1 : Int32) <<< (nI i &&& 31))) = 0 → tm_mix h p (i + 1) = tm_mix h p i) ∧ (¬ ((nI h ^^^ nI p) &&& ((1 : Int32) <<< (nI i &&& 31))) = 0 → ((nI p &&& ((1 : Int32) <<< (nI i &&& 31))) = 0 → tm_pn (tm_mix h p i) (tm_pnum i false) = tm_mix h p (i + 1)) ∧ (¬ (nI p &&& ((1 : Int32) <<< (nI i &&& 31))) = 0 → tm_pn (tm_mix h p i) (tm_pnum i true) = tm_mix h p (i + 1))) :=
  ⟨tm_pA1 h hh p hp i hi, fun z => ⟨tm_pA2 h hh p hp i hi z, fun y => ((tm_pA3 h hh p hp i hi).resolve_left z).resolve_left y⟩⟩
theorem tm_pB : ∀ i, i < 3 → 1 + (3 * nI i) = nI (tm_pnum i true) ∧ (i = 0 → 21 + (1 + (3 * nI i)) - 0 = nI (tm_pnum i false)) ∧ (i ≠ 0 → 21 + (1 + (3 * nI i)) - 1 = nI (tm_pnum i false)) ∧ tm_pnum i true ≤ 99 ∧ tm_pnum i false ≤ 99 := by decide +kernel
end
section
theorem tm_sP99 {post : St1 → Prop} {J : Int32 → Int32 → Int32 → Int32 → Int32 → (Nat → Int32) → (Nat → Int32) → (Nat → Int32) → (Nat → Int32) → (Nat → Int32) → (Nat → Int32) → (Nat → Int32) → (Nat → Int32) → (Nat → Int32) → (Nat → Int32) → (Nat → Int32) → (Nat → Int32) → (Nat → Int32) → (Nat → Int32) → (Nat → Int32) → (Nat → Int32) → (Nat → Int32) → (Nat → Int32) → (Nat → Int32) → (Nat → Int32) → (Nat → Int32) → (Nat → Int32) → (Nat → Int32) → (Nat → Int32) → Prop} {x1 x2 z : Int32} {i m s v : Nat} {num : Nat → Nat} {A T : tm_T} {at_ kc kn a1 a2 a3 a4 a5 a6 a7 a8 a9 a10 a11 a12 a13 a14 a15 a16 a17 a18 a19 a20 a21 a22 a23 a24} (h : tm_E (at_, kc, kn, a1, a2, a3, a4, a5, a6, a7, a8, a9, a10, a11, a12, a13, a14, a15, a16, a17, a18, a19, a20, a21, a22, a23, a24) A (tm_ls T s (m + 1) num)) (hI : tm_I T) (hs : 2 ≤ s) (hs3 : s ≤ 3) (hm : m < 4) (hnum : ∀ i, num i ≤ 99) (h0 : num m = 0) (hv : v ≤ 99) (hz : z = nI v) (hp : ∀ at_ kc kn a1 a2 a3 a4 a5 a6 a7 a8 a9 a10 a11 a12 a13 a14 a15 a16 a17 a18 a19 a20 a21 a22 a23 a24, tm_E (at_, kc, kn, a1, a2, a3, a4, a5, a6, a7, a8, a9, a10, a11, a12, a13, a14, a15, a16, a17, a18, a19, a20, a21, a22, a23, a24) A (tm_ls T 3 (m + 1) (fun i => if i = m then v else num i)) → J 1 (nI (i + 1)) at_ kc kn a1 a2 a3 a4 a5 a6 a7 a8 a9 a10 a11 a12 a13 a14 a15 a16 a17 a18 a19 a20 a21 a22 a23 a24) : wX_sendPen_99 post J x1 x2 (nI i) z at_ kc kn a1 a2 a3 a4 a5 a6 a7 a8 a9 a10 a11 a12 a13 a14 a15 a16 a17 a18 a19 a20 a21 a22 a23 a24 := by
  subst hz
  unfold wX_sendPen_99
  refine tm_sendNumber h hI hs hs3 (by omega) (by omega) hnum h0 hv ?_
  intro u1 h1
  obtain ⟨at_, kc, kn, a1, a2, a3, a4, a5, a6, a7, a8, a9, a10, a11, a12, a13, a14, a15, a16, a17, a18, a19, a20, a21, a22, a23, a24⟩ := u1
  exact nm_r (nI_1 i) (hp at_ kc kn a1 a2 a3 a4 a5 a6 a7 a8 a9 a10 a11 a12 a13 a14 a15 a16 a17 a18 a19 a20 a21 a22 a23 a24 h1)
theorem tm_sP {post : St1 → Prop} {h p : Nat} {A T : tm_T} (hh : h < 8) (hp8 : p < 8) (hne : h ≠ p) (hp0 : p ≠ 0) (hQ : tm_Q T) (h7 : T 7 0 = h) (hpost : ∀ u', tm_E u' A (tm_up T 7 0 p) → post u') : ∀ (n i m w k s : Nat) (num : Nat → Nat) (at_ kc kn a1 a2 a3 a4 a5 a6 a7 a8 a9 a10 a11 a12 a13 a14 a15 a16 a17 a18 a19 a20 a21 a22 a23 a24), i + n = 3 → (w = 0 ∧ m = 0 ∧ k = 1 ∨ w = 1 ∧ 1 ≤ m ∧ k = m) → m ≤ i → (∀ j, m ≤ j → num j = 0) → (∀ j, num j ≤ 99) → tm_fd num m 0 h = tm_mix h p i → 2 ≤ s → s ≤ 3 → tm_E (at_, kc, kn, a1, a2, a3, a4, a5, a6, a7, a8, a9, a10, a11, a12, a13, a14, a15, a16, a17, a18, a19, a20, a21, a22, a23, a24) A (tm_ls T s k num) → wX_sendPen_30 post (nI p) (nI h) (n + 1) (nI w) (nI i) at_ kc kn a1 a2 a3 a4 a5 a6 a7 a8 a9 a10 a11 a12 a13 a14 a15 a16 a17 a18 a19 a20 a21 a22 a23 a24 := by
  intro n
  induction n with
  | zero =>
    intro i m w k s num at_ kc kn a1 a2 a3 a4 a5 a6 a7 a8 a9 a10 a11 a12 a13 a14 a15 a16 a17 a18 a19 a20 a21 a22 a23 a24 hi hw hm hz hnum hfd hs hs3 hE
    obtain rfl : i = 3 := by omega
    refine pk_le 3 3 (fun _ => ?_) (fun z => absurd z (by omega))
    have hm1 : 1 ≤ m ∧ k = m := by
      rcases hw with q | q
      · rw [q.2.1] at hfd
        exact absurd hfd hne
      · exact q.2
    unfold wX_sendPen_115
    refine tm_send (b := 109) hE (tm_J_ls hQ.1.1 hs3 (by omega) (by omega) hnum) (by decide) ?_
    intro u1 h1
    obtain ⟨at_, kc, kn, a1, a2, a3, a4, a5, a6, a7, a8, a9, a10, a11, a12, a13, a14, a15, a16, a17, a18, a19, a20, a21, a22, a23, a24⟩ := u1
    have e : tm_fd num k 0 (T 7 0) = p := by
      rw [h7, hm1.2]
      exact hfd
    rw [tm_rd109 hQ hs (by omega), e] at h1
    exact hpost _ h1
  | succ n ih =>
    intro i m w k s num at_ kc kn a1 a2 a3 a4 a5 a6 a7 a8 a9 a10 a11 a12 a13 a14 a15 a16 a17 a18 a19 a20 a21 a22 a23 a24 hi hw hm hz hnum hfd hs hs3 hE
    have hA := tm_pA (i := i) hh hp8 (by omega)
    have hB := tm_pB i (by omega)
    have hk : k ≤ 4 := by omega
    have hk1 : 1 ≤ k := by omega
    refine pk_le 3 i (fun z => absurd z (by omega)) (fun _ => pk_eq p 0 (fun z => absurd z hp0) (fun _ => ?_))
    intro x5 e5
    subst e5
    refine br_c (fun z => ?_) (fun z => ?_)
    · refine nm_r (nI_1 i) (ih (i + 1) m w k s num at_ kc kn a1 a2 a3 a4 a5 a6 a7 a8 a9 a10 a11 a12 a13 a14 a15 a16 a17 a18 a19 a20 a21 a22 a23 a24 (by omega) hw (by omega) hz hnum ?_ hs hs3 hE)
      rw [hA.1 z]
      exact hfd
    · have key : ∀ (s' : Nat) (num' : Nat → Nat) (at_ kc kn a1 a2 a3 a4 a5 a6 a7 a8 a9 a10 a11 a12 a13 a14 a15 a16 a17 a18 a19 a20 a21 a22 a23 a24), tm_E (at_, kc, kn, a1, a2, a3, a4, a5, a6, a7, a8, a9, a10, a11, a12, a13, a14, a15, a16, a17, a18, a19, a20, a21, a22, a23, a24) A (tm_ls T s' (m + 1) num') → 2 ≤ s' → s' ≤ 3 → (∀ j, j < m → num' j = num j) → (∀ j, m ≤ j → num' j = 0) → (∀ j, num' j ≤ 99) → wX_sendPen_65 post (wX_sendPen_30 post (nI p) (nI h) (n + 1)) (nI p) (nI h) (nI i) ((1 : Int32) <<< (nI i &&& 31)) at_ kc kn a1 a2 a3 a4 a5 a6 a7 a8 a9 a10 a11 a12 a13 a14 a15 a16 a17 a18 a19 a20 a21 a22 a23 a24 := by
        intro s' num' at_ kc kn a1 a2 a3 a4 a5 a6 a7 a8 a9 a10 a11 a12 a13 a14 a15 a16 a17 a18 a19 a20 a21 a22 a23 a24 hE' hs' hs3' hlo hhi hnum'
        have fin : ∀ v, v ≤ 99 → tm_pn (tm_mix h p i) v = tm_mix h p (i + 1) → ∀ at_ kc kn a1 a2 a3 a4 a5 a6 a7 a8 a9 a10 a11 a12 a13 a14 a15 a16 a17 a18 a19 a20 a21 a22 a23 a24, tm_E (at_, kc, kn, a1, a2, a3, a4, a5, a6, a7, a8, a9, a10, a11, a12, a13, a14, a15, a16, a17, a18, a19, a20, a21, a22, a23, a24) A (tm_ls T 3 (m + 1) (fun i => if i = m then v else num' i)) → wX_sendPen_30 post (nI p) (nI h) (n + 1) 1 (nI (i + 1)) at_ kc kn a1 a2 a3 a4 a5 a6 a7 a8 a9 a10 a11 a12 a13 a14 a15 a16 a17 a18 a19 a20 a21 a22 a23 a24 := by
          intro v hv hpn at_ kc kn a1 a2 a3 a4 a5 a6 a7 a8 a9 a10 a11 a12 a13 a14 a15 a16 a17 a18 a19 a20 a21 a22 a23 a24 g
          refine ih (i + 1) (m + 1) 1 (m + 1) 3 _ at_ kc kn a1 a2 a3 a4 a5 a6 a7 a8 a9 a10 a11 a12 a13 a14 a15 a16 a17 a18 a19 a20 a21 a22 a23 a24 (by omega) (Or.inr ⟨rfl, by omega, rfl⟩) (by omega) (fun j hj => ?_) (fun j => ?_) ?_ (by decide) (by decide) g
          · try dsimp only
            rw [if_neg (by omega)]
            exact hhi j (by omega)
          · have := hnum' j
            try dsimp only
            split <;> omega
          · rw [tm_fd_s]
            have e1 : tm_fd (fun i => if i = m then v else num' i) m 0 h = tm_fd num m 0 h := by
              refine tm_fd_c (fun j hj => ?_)
              try dsimp only
              rw [if_neg (by omega)]
              exact hlo j (by omega)
            rw [e1, hfd]
            show tm_pn (tm_mix h p i) (if 0 + m = m then v else num' (0 + m)) = _
            rw [if_pos (by omega)]
            exact hpn
        refine br_c (fun y => ?_) (fun y => ?_)
        · refine pk_eq i 0 (fun q => ?_) (fun q => ?_)
          · exact tm_sP99 (post := post) (x1 := nI p) (x2 := nI h) hE' hQ.1.1 hs' hs3' (by omega) hnum' (hhi m (by omega)) hB.2.2.2.2 (hB.2.1 q) (fin _ hB.2.2.2.2 ((hA.2 z).1 y))
          · exact tm_sP99 (post := post) (x1 := nI p) (x2 := nI h) hE' hQ.1.1 hs' hs3' (by omega) hnum' (hhi m (by omega)) hB.2.2.2.2 (hB.2.2.1 q) (fin _ hB.2.2.2.2 ((hA.2 z).1 y))
        · exact tm_sP99 (post := post) (x1 := nI p) (x2 := nI h) hE' hQ.1.1 hs' hs3' (by omega) hnum' (hhi m (by omega)) hB.2.2.2.1 hB.1 (fin _ hB.2.2.2.1 ((hA.2 z).2 y))
      have hw2 : w < 2 := by omega
      refine pk_eq w 0 (fun y => ?_) (fun y => ?_)
      · have q : m = 0 ∧ k = 1 := by omega
        refine key s num at_ kc kn a1 a2 a3 a4 a5 a6 a7 a8 a9 a10 a11 a12 a13 a14 a15 a16 a17 a18 a19 a20 a21 a22 a23 a24 ?_ hs hs3 (fun _ _ => rfl) hz hnum
        rw [q.1]
        rw [q.2] at hE
        exact hE
      · have q : 1 ≤ m ∧ k = m := by omega
        refine tm_send (b := 59) hE (tm_J_ls hQ.1.1 hs3 (by omega) (by omega) hnum) (by decide) ?_
        intro u1 h1
        obtain ⟨at_, kc, kn, a1, a2, a3, a4, a5, a6, a7, a8, a9, a10, a11, a12, a13, a14, a15, a16, a17, a18, a19, a20, a21, a22, a23, a24⟩ := u1
        rw [tm_rd59 hs (by omega), q.2] at h1
        refine key 3 _ at_ kc kn a1 a2 a3 a4 a5 a6 a7 a8 a9 a10 a11 a12 a13 a14 a15 a16 a17 a18 a19 a20 a21 a22 a23 a24 h1 (by decide) (by decide) (fun j hj => ?_) (fun j hj => ?_) (fun j => ?_)
        · try dsimp only
          rw [if_neg (by omega)]
        · try dsimp only
          split
          · rfl
          · exact hz j hj
        · have := hnum j
          try dsimp only
          split <;> omega
theorem tm_sendPen {post : St1 → Prop} {u : St1} {p : Nat} {A T : tm_T} (h : tm_E u A T) (hQ : tm_Q T) (hp8 : p < 8) (hp : ∀ u', tm_E u' A (tm_up T 7 0 p) → post u') : wpX_sendPen post u (nI p) := by
  obtain ⟨at_, kc, kn, a1, a2, a3, a4, a5, a6, a7, a8, a9, a10, a11, a12, a13, a14, a15, a16, a17, a18, a19, a20, a21, a22, a23, a24⟩ := u
  have h7 := tm_b7 hQ.1.1.1 0
  refine nm_r (tm_s7 h.2) (pk_eq (T 7 0) p (fun z => ?_) (fun z => ?_))
  · rw [tm_up_same z] at hp
    exact hp _ h
  · refine tm_send (b := 27) h hQ.1 (by decide) ?_
    intro u1 h1
    obtain ⟨at_, kc, kn, a1, a2, a3, a4, a5, a6, a7, a8, a9, a10, a11, a12, a13, a14, a15, a16, a17, a18, a19, a20, a21, a22, a23, a24⟩ := u1
    rw [tm_rd27 hQ.2.2.1] at h1
    refine tm_send (b := 91) h1 (tm_J_e1 hQ) (by decide) ?_
    intro u2 h2
    obtain ⟨at_, kc, kn, a1, a2, a3, a4, a5, a6, a7, a8, a9, a10, a11, a12, a13, a14, a15, a16, a17, a18, a19, a20, a21, a22, a23, a24⟩ := u2
    rw [tm_rd91 hQ.2.2.1] at h2
    by_cases y : p = 0
    · refine ⟨1, ?_⟩
      subst y
      refine pk_le 3 0 (fun q => absurd q (by decide)) (fun _ => pk_eq 0 0 (fun _ => ?_) (fun q => absurd rfl q))
      unfold wX_sendPen_115
      refine tm_send (b := 109) h2 (tm_J_ls hQ.1.1 (by decide) (by decide) (by decide) (fun _ => by decide)) (by decide) ?_
      intro u3 h3
      obtain ⟨at_, kc, kn, a1, a2, a3, a4, a5, a6, a7, a8, a9, a10, a11, a12, a13, a14, a15, a16, a17, a18, a19, a20, a21, a22, a23, a24⟩ := u3
      rw [tm_rd109 (s := 2) (k := 1) hQ (by decide) (by decide)] at h3
      exact hp _ h3
    · refine ⟨4, ?_⟩
      exact tm_sP (by omega) hp8 z y hQ rfl hp 3 0 0 0 1 2 (fun _ => 0) at_ kc kn a1 a2 a3 a4 a5 a6 a7 a8 a9 a10 a11 a12 a13 a14 a15 a16 a17 a18 a19 a20 a21 a22 a23 a24 (by decide) (Or.inl ⟨rfl, rfl, rfl⟩) (by decide) (fun _ _ => rfl) (fun _ => by decide) rfl (by decide) (by decide) h2
end
section
/-! row by row -/
def tm_im (A T T' : tm_T) (P : Nat → Nat → Prop) : Prop := ∀ r c, r < 6 → c < 12 → P r c → tm_rt A T r c → tm_rt A T' r c
theorem tm_im_kc {A T T' : tm_T} {P : Nat → Nat → Prop} (h : tm_kc T T' P) : tm_im A T T' P := fun _ _ hr hc hP ht => tm_kc_rt h hr hc hP ht
theorem tm_shT : ∀ k, k < 24 → (12 ≤ nI k - 11 ↔ 23 ≤ k) ∧ (nI k - 11 + 1 = nI (k + 1) - 11) ∧ (nI k - 11 = 0 ↔ k = 11) ∧ (nI k - 11 ≤ 0 ↔ k ≤ 11) ∧ (k ≤ 11 → -(nI k - 11) = nI (11 - k)) ∧ (11 ≤ k → nI k - 11 = nI (k - 11)) := by decide +kernel
theorem tm_sh17 {post : St1 → Prop} {r f : Nat} {A T : tm_T} {at_ kc kn a1 a2 a3 a4 a5 a6 a7 a8 a9 a10 a11 a12 a13 a14 a15 a16 a17 a18 a19 a20 a21 a22 a23 a24} (h : tm_E (at_, kc, kn, a1, a2, a3, a4, a5, a6, a7, a8, a9, a10, a11, a12, a13, a14, a15, a16, a17, a18, a19, a20, a21, a22, a23, a24) A T) (hA : tm_B A) (hQ : tm_Q T) (hr : r < 6) (hf : f < 12) (hp : ∀ u' T', tm_E u' A T' → tm_Q T' → tm_im A T T' (fun r' c => r' ≠ r ∨ c < f) → post u') : ∀ (n k j : Nat) (m : Int32), k + n = 23 → j < 23 → wX_sendShift_17 post (nI r) (nI f) at_ kc kn a1 a2 a3 a4 a5 a6 a7 a8 a9 a10 a11 a12 a13 a14 a15 a16 a17 a18 a19 a20 a21 a22 a23 a24 (n + 1) (nI j - 11) m (nI k - 11) := by
  intro n
  induction n with
  | zero =>
    intro k j m hk hj
    have tk := tm_shT k (by omega)
    have tj := tm_shT j (by omega)
    refine br_t (tk.1.mpr (by omega)) (br_c (fun z => ?_) (fun z => ?_))
    · exact hp _ T h hQ (fun _ _ _ _ _ ht => ht)
    · refine tm_sendMove h hQ hr hf ?_
      intro u1 h1
      obtain ⟨at_, kc, kn, a1, a2, a3, a4, a5, a6, a7, a8, a9, a10, a11, a12, a13, a14, a15, a16, a17, a18, a19, a20, a21, a22, a23, a24⟩ := u1
      have hQ1 := tm_Q_mv hQ hr hf
      have im : ∀ {T' : tm_T}, tm_kc (tm_mv T r f) T' (fun r' c => r' ≠ tm_mv T r f 4 0 ∨ c < tm_mv T r f 5 0) → tm_im A T T' (fun r' c => r' ≠ r ∨ c < f) :=
        fun kc r' c hr' hc' hP ht => tm_kc_rt kc hr' hc' hP (tm_kc_rt tm_kc_mv hr' hc' trivial ht)
      have hj11 : j ≠ 11 := fun y => z (tj.2.2.1.mpr y)
      refine br_c (fun y => ?_) (fun y => ?_)
      · have hle := tj.2.2.2.1.mp y
        rw [tj.2.2.2.2.1 hle]
        refine tm_sendOne h1 hQ1 (by omega) (by omega) (b := 64) (by decide) ?_
        intro u2 h2
        obtain ⟨at_, kc, kn, a1, a2, a3, a4, a5, a6, a7, a8, a9, a10, a11, a12, a13, a14, a15, a16, a17, a18, a19, a20, a21, a22, a23, a24⟩ := u2
        have g := tm_f1_64 (n := 11 - j) hQ1 (by omega)
        exact hp _ _ h2 g.1 (im g.2)
      · have hle : 11 ≤ j := by
          rcases Nat.lt_or_ge j 11 with q | q
          · exact absurd (tj.2.2.2.1.mpr (by omega)) y
          · exact q
        rw [tj.2.2.2.2.2 hle]
        refine tm_sendOne h1 hQ1 (by omega) (by omega) (b := 80) (by decide) ?_
        intro u2 h2
        obtain ⟨at_, kc, kn, a1, a2, a3, a4, a5, a6, a7, a8, a9, a10, a11, a12, a13, a14, a15, a16, a17, a18, a19, a20, a21, a22, a23, a24⟩ := u2
        have g := tm_f1_80 (n := j - 11) hQ1 (by omega)
        exact hp _ _ h2 g.1 (im g.2)
  | succ n ih =>
    intro k j m hk hj
    have tk := tm_shT k (by omega)
    refine br_f (fun z => absurd (tk.1.mp z) (by omega)) (tm_rightCells h hA hQ.1.1.1 hr (by omega) (fun v => br_c (fun _ => nm_r tk.2.1 ?_) (fun _ => nm_r tk.2.1 ?_)))
    · exact ih (k + 1) j m (by omega) hj
    · exact ih (k + 1) k v (by omega) (by omega)
theorem tm_sendShift {post : St1 → Prop} {u : St1} {r f : Nat} {A T : tm_T} (h : tm_E u A T) (hA : tm_B A) (hQ : tm_Q T) (hr : r < 6) (hf : f < 12) (hp : ∀ u' T', tm_E u' A T' → tm_Q T' → tm_im A T T' (fun r' c => r' ≠ r ∨ c < f) → post u') : wpX_sendShift post u (nI r) (nI f) := by
  obtain ⟨at_, kc, kn, a1, a2, a3, a4, a5, a6, a7, a8, a9, a10, a11, a12, a13, a14, a15, a16, a17, a18, a19, a20, a21, a22, a23, a24⟩ := u
  unfold wpX_sendShift
  refine tm_rightCells h hA hQ.1.1.1 hr (by omega) ?_
  exact (fun v => nm_e ⟨24, tm_sh17 h hA hQ hr hf hp 23 0 11 _ (by decide) (by decide)⟩)
theorem tm_isEmpty {post : Int32 → Prop} {u : St1} {t i : Nat} {x : Int32} {T : tm_T} (h : tm_Sl u t T) (ht : t < 2) (hB : tm_Cb T) (hi : i < 144) (hx : x = nI (t * 144 + i)) (h1 : T 1 i = 32 ∧ T 2 i = 0 → post 1) (h0 : ¬ (T 1 i = 32 ∧ T 2 i = 0) → post 0) : wpX_isEmpty post u x := by
  obtain ⟨at_, kc, kn, a1, a2, a3, a4, a5, a6, a7, a8, a9, a10, a11, a12, a13, a14, a15, a16, a17, a18, a19, a20, a21, a22, a23, a24⟩ := u
  subst hx
  have e1 : a1 (nI (t * 144 + i)).toNatClampNeg = nI (T 1 i) := by
    rw [nI_clamp (by omega)]
    exact tm_s1 h i hi
  have e2 : a2 (nI (t * 144 + i)).toNatClampNeg = nI (T 2 i) := by
    rw [nI_clamp (by omega)]
    exact tm_s2 h i hi
  have b := hB i
  exact (And.intro (pk_in (t * 144 + i) 288 (by omega)) (pk_eq (T 1 i) 32 (fun z => (And.intro (pk_in (t * 144 + i) 288 (by omega)) (pk_eq (T 2 i) 0 (fun y => h1 ⟨z, y⟩) (fun y => h0 (fun w => y w.2)) e2 rfl))) (fun z => h0 (fun w => z w.1)) e1 rfl))
theorem tm_sE66 {post : St1 → Prop} {r f m : Nat} {A T : tm_T} {at_ kc kn a1 a2 a3 a4 a5 a6 a7 a8 a9 a10 a11 a12 a13 a14 a15 a16 a17 a18 a19 a20 a21 a22 a23 a24} (h : tm_E (at_, kc, kn, a1, a2, a3, a4, a5, a6, a7, a8, a9, a10, a11, a12, a13, a14, a15, a16, a17, a18, a19, a20, a21, a22, a23, a24) A T) (hQ : tm_Q T) (hr : r < 6) (hm : f + m ≤ 12) (hz : ∀ c, f ≤ c → c < 12 → A 1 (tm_ln A r + c) = 32 ∧ A 2 (tm_ln A r + c) = 0) (hp : ∀ u' T', tm_E u' A T' → tm_Q T' → tm_im A T T' (fun _ _ => True) → post u') : wX_sendEnd_66 post (nI r) (nI f) (nI m) at_ kc kn a1 a2 a3 a4 a5 a6 a7 a8 a9 a10 a11 a12 a13 a14 a15 a16 a17 a18 a19 a20 a21 a22 a23 a24 := by
  refine pk_lt m 3 (fun z => ?_) (fun z => ?_)
  · exact hp _ T h hQ (fun _ _ _ _ _ ht => ht)
  · have hf : f < 12 := by omega
    refine tm_sendMove h hQ hr hf ?_
    intro u1 h1
    obtain ⟨at_, kc, kn, a1, a2, a3, a4, a5, a6, a7, a8, a9, a10, a11, a12, a13, a14, a15, a16, a17, a18, a19, a20, a21, a22, a23, a24⟩ := u1
    have hQ1 := tm_Q_mv hQ hr hf
    refine tm_send (b := 27) h1 hQ1.1 (by decide) ?_
    intro u2 h2
    obtain ⟨at_, kc, kn, a1, a2, a3, a4, a5, a6, a7, a8, a9, a10, a11, a12, a13, a14, a15, a16, a17, a18, a19, a20, a21, a22, a23, a24⟩ := u2
    rw [tm_rd27 hQ1.2.2.1] at h2
    refine tm_send (b := 91) h2 (tm_J_e1 hQ1) (by decide) ?_
    intro u3 h3
    obtain ⟨at_, kc, kn, a1, a2, a3, a4, a5, a6, a7, a8, a9, a10, a11, a12, a13, a14, a15, a16, a17, a18, a19, a20, a21, a22, a23, a24⟩ := u3
    rw [tm_rd91 hQ1.2.2.1] at h3
    refine tm_send (b := 75) h3 (tm_J_ls hQ1.1.1 (by decide) (by decide) (by decide) (fun _ => by decide)) (by decide) ?_
    intro u4 h4
    obtain ⟨at_, kc, kn, a1, a2, a3, a4, a5, a6, a7, a8, a9, a10, a11, a12, a13, a14, a15, a16, a17, a18, a19, a20, a21, a22, a23, a24⟩ := u4
    have h4 := tm_f1_E (n := 1) h4 hQ1.2.2.1 (by decide) (by decide) (by decide) (by funext i; split <;> rfl)
    have g := tm_f1_75 hQ1
    refine hp _ _ h4 g.1 (fun r' c hr' hc' _ ht => ?_)
    by_cases q : r' ≠ r ∨ c < f
    · exact tm_kc_rt g.2.1 hr' hc' q (tm_kc_rt tm_kc_mv hr' hc' trivial ht)
    · have e : r' = r ∧ f ≤ c := by omega
      have g1 := g.2.2 c e.2 hc'
      have g2 := hz c e.2 hc'
      rw [e.1]
      exact ⟨g2.1.trans g1.1.symm, g2.2.trans g1.2.symm⟩
theorem tm_sE21 {post : St1 → Prop} {r : Nat} {A T : tm_T} {at_ kc kn a1 a2 a3 a4 a5 a6 a7 a8 a9 a10 a11 a12 a13 a14 a15 a16 a17 a18 a19 a20 a21 a22 a23 a24} (h : tm_E (at_, kc, kn, a1, a2, a3, a4, a5, a6, a7, a8, a9, a10, a11, a12, a13, a14, a15, a16, a17, a18, a19, a20, a21, a22, a23, a24) A T) (hA : tm_B A) (hQ : tm_Q T) (hr : r < 6) (hp : ∀ u' T', tm_E u' A T' → tm_Q T' → tm_im A T T' (fun _ _ => True) → post u') : ∀ (f m : Nat), f + m ≤ 12 → (∀ c, f ≤ c → c < 12 → A 1 (tm_ln A r + c) = 32 ∧ A 2 (tm_ln A r + c) = 0) → wX_sendEnd_21 post (nI r) (nI (0 * 144 + tm_ln A r)) (nI (1 * 144 + tm_ln T r)) at_ kc kn a1 a2 a3 a4 a5 a6 a7 a8 a9 a10 a11 a12 a13 a14 a15 a16 a17 a18 a19 a20 a21 a22 a23 a24 (f + 1) (nI f) (nI m) := by
  intro f
  induction f with
  | zero =>
    intro m hm hz
    exact pk_le 0 0 (fun _ => tm_sE66 h hQ hr hm hz hp) (fun z => absurd z (by omega))
  | succ f ih =>
    intro m hm hz
    have la := tm_ln_le (r := r) (tm_B_Sb hA)
    have lb := tm_ln_le (r := r) (tm_B_Sb hQ.1.1.1)
    have ix : nI (0 * 144 + tm_ln A r) + nI (f + 1) - 1 = nI (0 * 144 + (tm_ln A r + f)) := by
      rw [nI_add, show 0 * 144 + tm_ln A r + (f + 1) = 0 * 144 + (tm_ln A r + f) + 1 by omega]
      exact nI_pred _
    refine pk_le (f + 1) 0 (fun z => absurd z (by omega)) (fun _ => tm_isEmpty h.1 (by decide) (tm_B_Cb hA) (show tm_ln A r + f < 144 by omega) ix (fun z => br_f (by decide) (nm_r (pk_m1 f) ?_)) (fun z => br_t rfl (tm_sE66 h hQ hr hm hz hp)))
    have hz' : ∀ c, f ≤ c → c < 12 → A 1 (tm_ln A r + c) = 32 ∧ A 2 (tm_ln A r + c) = 0 := by
      intro c hc hc12
      by_cases q : c = f
      · rw [q]
        exact z
      · exact hz c (by omega) hc12
    refine tm_isEmpty h.2 (by decide) (tm_B_Cb hQ.1.1.1) (show tm_ln T r + f < 144 by omega) (tm_ix3 _ _ _) (fun _ => br_f (by decide) (nm_r (nI_add m 0) ?_)) (fun _ => br_t rfl (nm_r (nI_1 m) ?_))
    · exact ih m (by omega) hz'
    · exact ih (m + 1) (by omega) hz'
theorem tm_sendEnd {post : St1 → Prop} {u : St1} {r : Nat} {A T : tm_T} (h : tm_E u A T) (hA : tm_B A) (hQ : tm_Q T) (hr : r < 6) (hp : ∀ u' T', tm_E u' A T' → tm_Q T' → tm_im A T T' (fun _ _ => True) → post u') : wpX_sendEnd post u (nI r) := by
  obtain ⟨at_, kc, kn, a1, a2, a3, a4, a5, a6, a7, a8, a9, a10, a11, a12, a13, a14, a15, a16, a17, a18, a19, a20, a21, a22, a23, a24⟩ := u
  unfold wpX_sendEnd
  refine tm_lineOf (t := 0) h.1 (by decide) (tm_B_Sb hA) hr ?_
  refine tm_lineOf (t := 1) h.2 (by decide) (tm_B_Sb hQ.1.1.1) hr ?_
  refine ⟨13, ?_⟩
  exact tm_sE21 h hA hQ hr hp 12 0 (by decide) (fun c h1 h2 => absurd h1 (by omega))
/-- one sign where the cursor stands -/
theorem tm_put1 {A T : tm_T} {r c b : Nat} (hQ : tm_Q T) (h4 : T 4 0 = r) (h5 : T 5 0 = c) (hb : 32 ≤ b) (hb2 : b ≤ 126) (e1 : A 1 (tm_ln A r + c) = b) (e2 : A 2 (tm_ln A r + c) = T 7 0) : tm_Q (tm_ps9 T b (tm_ln T (T 4 0)) (T 5 0)) ∧ tm_im A T (tm_ps9 T b (tm_ln T (T 4 0)) (T 5 0)) (fun _ _ => True) ∧ tm_rt A (tm_ps9 T b (tm_ln T (T 4 0)) (T 5 0)) r c := by
  have here : tm_rt A (tm_ps9 T b (tm_ln T (T 4 0)) (T 5 0)) r c := by
    unfold tm_rt
    rw [tm_ps9_ln, h4, h5]
    have g := tm_ps9_at (T := T) (b := b) (l := tm_ln T r) (c := c)
    exact ⟨e1.trans g.1.symm, e2.trans g.2.symm⟩
  refine ⟨tm_Q_ps9 hQ hb hb2, fun r' c' hr' hc' _ ht => ?_, here⟩
  by_cases q : r' ≠ T 4 0 ∨ c' ≠ T 5 0
  · exact tm_kc_rt (tm_kc_ps9 hQ) hr' hc' q ht
  · have e : r' = r ∧ c' = c := by omega
    rw [e.1, e.2]
    exact here
theorem tm_sB105 {post : St1 → Prop} {r q : Nat} {A : tm_T} (hA : tm_B A) (hr : r < 6) (hq : q < 12) : ∀ (n c : Nat) (T : tm_T) (at_ kc kn a1 a2 a3 a4 a5 a6 a7 a8 a9 a10 a11 a12 a13 a14 a15 a16 a17 a18 a19 a20 a21 a22 a23 a24), c + n = q → tm_E (at_, kc, kn, a1, a2, a3, a4, a5, a6, a7, a8, a9, a10, a11, a12, a13, a14, a15, a16, a17, a18, a19, a20, a21, a22, a23, a24) A T → tm_Q T → T 4 0 = r → T 5 0 = c → T 6 0 = 0 → (∀ d, c ≤ d → d < q → A 2 (tm_ln A r + d) = T 7 0) → (∀ u' T', tm_E u' A T' → tm_Q T' → tm_im A T T' (fun _ _ => True) → post u') → wX_sendBridge_105 post (nI q) (nI (0 * 144 + tm_ln A r)) 1 (n + 1) (nI c) at_ kc kn a1 a2 a3 a4 a5 a6 a7 a8 a9 a10 a11 a12 a13 a14 a15 a16 a17 a18 a19 a20 a21 a22 a23 a24 := by
  intro n
  induction n with
  | zero =>
    intro c T at_ kc kn a1 a2 a3 a4 a5 a6 a7 a8 a9 a10 a11 a12 a13 a14 a15 a16 a17 a18 a19 a20 a21 a22 a23 a24 hc h hQ h4 h5 h6 hst hp
    exact pk_le q c (fun _ => hp _ T h hQ (fun _ _ _ _ _ ht => ht)) (fun z => absurd z (by omega))
  | succ n ih =>
    intro c T at_ kc kn a1 a2 a3 a4 a5 a6 a7 a8 a9 a10 a11 a12 a13 a14 a15 a16 a17 a18 a19 a20 a21 a22 a23 a24 hc h hQ h4 h5 h6 hst hp
    have la := tm_ln_le (r := r) (tm_B_Sb hA)
    have ix := tm_ix3 0 (tm_ln A r) c
    have ev : a1 (nI (0 * 144 + tm_ln A r) + nI c).toNatClampNeg = nI (A 1 (tm_ln A r + c)) := by
      rw [ix, nI_clamp (by omega)]
      exact tm_s1 h.1 _ (by omega)
    have b1 := tm_c1 hA (tm_ln A r + c)
    have b2 := tm_b1 hA (tm_ln A r + c)
    refine pk_le q c (fun z => absurd z (by omega)) (fun _ => br_f (by decide) (And.intro (pk_in _ _ (by omega) ix) (?_)))
    rw [ev]
    refine tm_send h hQ.1 (by omega) ?_
    intro u1 h1
    obtain ⟨at_, kc, kn, a1, a2, a3, a4, a5, a6, a7, a8, a9, a10, a11, a12, a13, a14, a15, a16, a17, a18, a19, a20, a21, a22, a23, a24⟩ := u1
    rw [tm_rdP hQ.2.2.1 hQ.2.1.2.2.2.2.2 b1 b2 h6 hQ.2.1.2.2.1] at h1
    have g := tm_put1 (A := A) hQ h4 h5 b1 b2 rfl (hst c (by omega) (by omega))
    have es : tm_ps9 T (A 1 (tm_ln A r + c)) (tm_ln T (T 4 0)) (T 5 0) = tm_up (tm_put T (tm_ln T (T 4 0) + T 5 0) (A 1 (tm_ln A r + c)) (T 7 0)) 5 0 (T 5 0 + 1) := by
      unfold tm_ps9
      rw [if_neg (by omega)]
    have f4 : tm_ps9 T (A 1 (tm_ln A r + c)) (tm_ln T (T 4 0)) (T 5 0) 4 0 = r := by
      rw [es]
      exact h4
    have f5 : tm_ps9 T (A 1 (tm_ln A r + c)) (tm_ln T (T 4 0)) (T 5 0) 5 0 = c + 1 := by
      rw [es, tm_upS, h5]
    have f6 : tm_ps9 T (A 1 (tm_ln A r + c)) (tm_ln T (T 4 0)) (T 5 0) 6 0 = 0 := by
      rw [es]
      exact h6
    have f7 : tm_ps9 T (A 1 (tm_ln A r + c)) (tm_ln T (T 4 0)) (T 5 0) 7 0 = T 7 0 := by
      rw [es]
      rfl
    refine nm_r (nI_1 c) (ih (c + 1) _ at_ kc kn a1 a2 a3 a4 a5 a6 a7 a8 a9 a10 a11 a12 a13 a14 a15 a16 a17 a18 a19 a20 a21 a22 a23 a24 (by omega) h1 g.1 f4 f5 f6 (fun d hd1 hd2 => ?_) (fun u' T' hE' hQ' im' => ?_))
    · rw [f7]
      exact hst d (by omega) hd2
    · exact hp u' T' hE' hQ' (fun r' c' hr' hc' _ ht => im' r' c' hr' hc' trivial (g.2.1 r' c' hr' hc' trivial ht))
theorem tm_sB0 {post : St1 → Prop} {q x y : Int32} {at_ kc kn a1 a2 a3 a4 a5 a6 a7 a8 a9 a10 a11 a12 a13 a14 a15 a16 a17 a18 a19 a20 a21 a22 a23 a24} (hp : post (at_, kc, kn, a1, a2, a3, a4, a5, a6, a7, a8, a9, a10, a11, a12, a13, a14, a15, a16, a17, a18, a19, a20, a21, a22, a23, a24)) : ∃ n, wX_sendBridge_105 post q x 0 n y at_ kc kn a1 a2 a3 a4 a5 a6 a7 a8 a9 a10 a11 a12 a13 a14 a15 a16 a17 a18 a19 a20 a21 a22 a23 a24 := ⟨1, br_c (fun _ => hp) (fun _ => br_t rfl hp)⟩
theorem tm_sB59 {post : St1 → Prop} {r q a : Nat} {A T : tm_T} {at_ kc kn a1 a2 a3 a4 a5 a6 a7 a8 a9 a10 a11 a12 a13 a14 a15 a16 a17 a18 a19 a20 a21 a22 a23 a24} (hA : tm_B A) (hr : r < 6) (hq : q < 12) (h : tm_E (at_, kc, kn, a1, a2, a3, a4, a5, a6, a7, a8, a9, a10, a11, a12, a13, a14, a15, a16, a17, a18, a19, a20, a21, a22, a23, a24) A T) (hQ : tm_Q T) (h4 : T 4 0 = r) (h5 : T 5 0 = a) (h6 : T 6 0 = 0) (haq : a ≤ q) (hp : ∀ u' T', tm_E u' A T' → tm_Q T' → tm_im A T T' (fun _ _ => True) → post u') : ∀ (n c w : Nat), c + n = q → a ≤ c → w < 2 → (w = 1 → ∀ d, a ≤ d → d < c → A 2 (tm_ln A r + d) = T 7 0) → wX_sendBridge_59 post (nI q) (nI (0 * 144 + tm_ln A r)) (nI a) at_ kc kn a1 a2 a3 a4 a5 a6 a7 a8 a9 a10 a11 a12 a13 a14 a15 a16 a17 a18 a19 a20 a21 a22 a23 a24 (n + 1) (nI w) (nI c) := by
  have hid : post (at_, kc, kn, a1, a2, a3, a4, a5, a6, a7, a8, a9, a10, a11, a12, a13, a14, a15, a16, a17, a18, a19, a20, a21, a22, a23, a24) := hp _ T h hQ (fun _ _ _ _ _ ht => ht)
  intro n
  induction n with
  | zero =>
    intro c w hc hac hw hst
    refine pk_le q c (fun _ => ?_) (fun z => absurd z (by omega))
    rcases (show w = 0 ∨ w = 1 by omega) with rfl | rfl
    · exact tm_sB0 hid
    · exact ⟨q - a + 1, tm_sB105 hA hr hq (q - a) a T at_ kc kn a1 a2 a3 a4 a5 a6 a7 a8 a9 a10 a11 a12 a13 a14 a15 a16 a17 a18 a19 a20 a21 a22 a23 a24 (by omega) h hQ h4 h5 h6 (fun d h1 h2 => hst rfl d h1 (by omega)) hp⟩
  | succ n ih =>
    intro c w hc hac hw hst
    have la := tm_ln_le (r := r) (tm_B_Sb hA)
    have ix := tm_ix3 0 (tm_ln A r) c
    have ev : a2 (nI (0 * 144 + tm_ln A r) + nI c).toNatClampNeg = nI (A 2 (tm_ln A r + c)) := by
      rw [ix, nI_clamp (by omega)]
      exact tm_s2 h.1 _ (by omega)
    have b2 := tm_b2 hA (tm_ln A r + c)
    have b7 := tm_b7 hQ.1.1.1 0
    refine pk_le q c (fun z => absurd z (by omega)) (fun _ => ?_)
    rcases (show w = 0 ∨ w = 1 by omega) with rfl | rfl
    · exact br_t rfl (tm_sB0 hid)
    · refine br_f (by decide) (And.intro (pk_in _ _ (by omega) ix) (pk_eq (A 2 (tm_ln A r + c)) (T 7 0) (fun z => nm_r (nI_1 c) (ih (c + 1) 1 (by omega) (by omega) (by decide) (fun _ d h1 h2 => ?_))) (fun z => nm_r (nI_1 c) (ih (c + 1) 0 (by omega) (by omega) (by decide) (fun y => absurd y (by decide)))) ev (tm_s7 h.2)))
      by_cases y : d = c
      · rw [y]
        exact z
      · exact hst rfl d h1 (by omega)
theorem tm_sendBridge {post : St1 → Prop} {u : St1} {r q : Nat} {A T : tm_T} (h : tm_E u A T) (hA : tm_B A) (hQ : tm_Q T) (hr : r < 6) (hq : q < 12) (hp : ∀ u' T', tm_E u' A T' → tm_Q T' → tm_im A T T' (fun _ _ => True) → post u') : wpX_sendBridge post u (nI r) (nI q) := by
  obtain ⟨at_, kc, kn, a1, a2, a3, a4, a5, a6, a7, a8, a9, a10, a11, a12, a13, a14, a15, a16, a17, a18, a19, a20, a21, a22, a23, a24⟩ := u
  have hid : post (at_, kc, kn, a1, a2, a3, a4, a5, a6, a7, a8, a9, a10, a11, a12, a13, a14, a15, a16, a17, a18, a19, a20, a21, a22, a23, a24) := hp _ T h hQ (fun _ _ _ _ _ ht => ht)
  have h4 := tm_b4 hQ.1.1.1 0
  have h5 := tm_b5 hQ.1.1.1 0
  have h6 := tm_b6 hQ.1.1.1 0
  have no : ∃ n, wX_sendBridge_59 post (nI q) (nI (0 * 144 + tm_ln A r)) (nI (T 5 0)) at_ kc kn a1 a2 a3 a4 a5 a6 a7 a8 a9 a10 a11 a12 a13 a14 a15 a16 a17 a18 a19 a20 a21 a22 a23 a24 n 0 (nI (T 5 0)) :=
    ⟨1, br_c (fun _ => tm_sB0 hid) (fun _ => br_t rfl (tm_sB0 hid))⟩
  unfold wpX_sendBridge
  refine tm_lineOf (t := 0) h.1 (by decide) (tm_B_Sb hA) hr ?_
  refine (nm_r (tm_s5 h.2) (pk_eq (T 4 0) r (fun z => pk_eq (T 6 0) 0 (fun y => pk_le q (T 5 0) (fun _ => no) (fun w => ?_)) (fun _ => no) (tm_s6 h.2) rfl) (fun _ => no) (tm_s4 h.2) rfl))
  have e : nI q - nI (T 5 0) = nI (q - T 5 0) := pk_sub (by omega)
  rw [e]
  refine pk_lt 3 (q - T 5 0) (fun _ => no) (fun _ => ⟨q - T 5 0 + 1, ?_⟩)
  exact tm_sB59 (a := T 5 0) hA hr hq h hQ z rfl y (by omega) hp (q - T 5 0) (T 5 0) 1 (by omega) (by omega) (by decide) (fun _ d h1 h2 => absurd h1 (by omega))
/-- what a row's sending must reach -/
theorem tm_sR34 {post : St1 → Prop} {r : Nat} {A T0 : tm_T} (hA : tm_B A) (hr : r < 6) (hp : ∀ u' T', tm_E u' A T' → tm_Q T' → tm_im A T0 T' (fun r' _ => r' ≠ r) → (∀ c, c < 12 → tm_rt A T' r c) → post u') : ∀ (n c : Nat) (T : tm_T) (at_ kc kn a1 a2 a3 a4 a5 a6 a7 a8 a9 a10 a11 a12 a13 a14 a15 a16 a17 a18 a19 a20 a21 a22 a23 a24), c + n = 12 → tm_E (at_, kc, kn, a1, a2, a3, a4, a5, a6, a7, a8, a9, a10, a11, a12, a13, a14, a15, a16, a17, a18, a19, a20, a21, a22, a23, a24) A T → tm_Q T → tm_im A T0 T (fun r' _ => r' ≠ r) → (∀ d, d < c → tm_rt A T r d) → wX_sendRow_34 post (nI r) (nI (0 * 144 + tm_ln A r)) (n + 1) (nI c) at_ kc kn a1 a2 a3 a4 a5 a6 a7 a8 a9 a10 a11 a12 a13 a14 a15 a16 a17 a18 a19 a20 a21 a22 a23 a24 := by
  intro n
  induction n with
  | zero =>
    intro c T at_ kc kn a1 a2 a3 a4 a5 a6 a7 a8 a9 a10 a11 a12 a13 a14 a15 a16 a17 a18 a19 a20 a21 a22 a23 a24 hc h hQ im hd
    exact pk_le 12 c (fun _ => hp _ T h hQ im (fun d h' => hd d (by omega))) (fun z => absurd z (by omega))
  | succ n ih =>
    intro c T at_ kc kn a1 a2 a3 a4 a5 a6 a7 a8 a9 a10 a11 a12 a13 a14 a15 a16 a17 a18 a19 a20 a21 a22 a23 a24 hc h hQ im hd
    have la := tm_ln_le (r := r) (tm_B_Sb hA)
    have lb := tm_ln_le (r := r) (tm_B_Sb hQ.1.1.1)
    have ix := tm_ix3 0 (tm_ln A r) c
    have hc12 : c < 12 := by omega
    have b1 := tm_c1 hA (tm_ln A r + c)
    have b1' := tm_b1 hA (tm_ln A r + c)
    have b2 := tm_b2 hA (tm_ln A r + c)
    refine pk_le 12 c (fun z => absurd z (by omega)) (fun _ => ?_)
    refine tm_lineOf (t := 1) h.2 (by decide) (tm_B_Sb hQ.1.1.1) hr ?_
    refine tm_sameCells h (tm_B_Cb hA) (tm_B_Cb hQ.1.1.1) (show tm_ln A r + c < 144 by omega) (show tm_ln T r + c < 144 by omega) ix (tm_ix3 _ _ _) (fun z => ?_) (fun z => ?_)
    · refine br_f (by decide) (nm_r (nI_1 c) (ih (c + 1) T at_ kc kn a1 a2 a3 a4 a5 a6 a7 a8 a9 a10 a11 a12 a13 a14 a15 a16 a17 a18 a19 a20 a21 a22 a23 a24 (by omega) h hQ im (fun d hd' => ?_)))
      by_cases y : d = c
      · rw [y]
        exact z
      · exact hd d (by omega)
    · refine br_t rfl (tm_sendBridge h hA hQ hr hc12 ?_)
      intro u1 T1 h1 hQ1 im1
      obtain ⟨at_, kc, kn, a1, a2, a3, a4, a5, a6, a7, a8, a9, a10, a11, a12, a13, a14, a15, a16, a17, a18, a19, a20, a21, a22, a23, a24⟩ := u1
      refine tm_sendMove h1 hQ1 hr hc12 ?_
      intro u2 h2
      obtain ⟨at_, kc, kn, a1, a2, a3, a4, a5, a6, a7, a8, a9, a10, a11, a12, a13, a14, a15, a16, a17, a18, a19, a20, a21, a22, a23, a24⟩ := u2
      have hQ2 := tm_Q_mv hQ1 hr hc12
      refine (And.intro (pk_in _ _ (by omega) ix) (?_))
      have e2 : a2 (nI (0 * 144 + tm_ln A r) + nI c).toNatClampNeg = nI (A 2 (tm_ln A r + c)) := by
        rw [ix, nI_clamp (by omega)]
        exact tm_s2 h2.1 _ (by omega)
      rw [e2]
      refine tm_sendPen h2 hQ2 (by omega) ?_
      intro u3 h3
      obtain ⟨at_, kc, kn, a1, a2, a3, a4, a5, a6, a7, a8, a9, a10, a11, a12, a13, a14, a15, a16, a17, a18, a19, a20, a21, a22, a23, a24⟩ := u3
      have hQ3 := tm_Q_pen hQ2 b2
      refine (And.intro (pk_in _ _ (by omega) ix) (?_))
      have e3 : a1 (nI (0 * 144 + tm_ln A r) + nI c).toNatClampNeg = nI (A 1 (tm_ln A r + c)) := by
        rw [ix, nI_clamp (by omega)]
        exact tm_s1 h3.1 _ (by omega)
      rw [e3]
      refine tm_send h3 hQ3.1 (by omega) ?_
      intro u4 h4
      obtain ⟨at_, kc, kn, a1, a2, a3, a4, a5, a6, a7, a8, a9, a10, a11, a12, a13, a14, a15, a16, a17, a18, a19, a20, a21, a22, a23, a24⟩ := u4
      rw [tm_rdP hQ3.2.2.1 hQ3.2.1.2.2.2.2.2 b1 b1' rfl hQ3.2.1.2.2.1] at h4
      have g := tm_put1 (A := A) hQ3 (r := r) (c := c) rfl rfl b1 b1' rfl rfl
      have all : ∀ r' c', r' < 6 → c' < 12 → tm_rt A T r' c' → tm_rt A _ r' c' := fun r' c' hr' hc' ht => g.2.1 r' c' hr' hc' trivial (tm_kc_rt tm_kc_pen hr' hc' trivial (tm_kc_rt tm_kc_mv hr' hc' trivial (im1 r' c' hr' hc' trivial ht)))
      refine nm_r (nI_1 c) (ih (c + 1) _ at_ kc kn a1 a2 a3 a4 a5 a6 a7 a8 a9 a10 a11 a12 a13 a14 a15 a16 a17 a18 a19 a20 a21 a22 a23 a24 (by omega) h4 g.1 (fun r' c' hr' hc' hP ht => all r' c' hr' hc' (im r' c' hr' hc' hP ht)) (fun d hd' => ?_))
      by_cases y : d = c
      · rw [y]
        exact g.2.2
      · exact all r d hr (by omega) (hd d (by omega))
theorem tm_sendRow {post : St1 → Prop} {u : St1} {r : Nat} {A T : tm_T} (h : tm_E u A T) (hA : tm_B A) (hQ : tm_Q T) (hr : r < 6) (hp : ∀ u' T', tm_E u' A T' → tm_Q T' → tm_im A T T' (fun r' _ => r' ≠ r) → (∀ c, c < 12 → tm_rt A T' r c) → post u') : wpX_sendRow post u (nI r) := by
  obtain ⟨at_, kc, kn, a1, a2, a3, a4, a5, a6, a7, a8, a9, a10, a11, a12, a13, a14, a15, a16, a17, a18, a19, a20, a21, a22, a23, a24⟩ := u
  unfold wpX_sendRow
  refine tm_firstStale h hA hQ.1.1.1 hr ?_
  refine (fun k hk hd => pk_eq k 12 (fun z => ?_) (fun z => ?_))
  · exact hp _ T h hQ (fun _ _ _ _ _ ht => ht) (fun c hc => hd c (by omega))
  · refine tm_sendShift h hA hQ hr (by omega) ?_
    intro u1 T1 h1 hQ1 im1
    obtain ⟨at_, kc, kn, a1, a2, a3, a4, a5, a6, a7, a8, a9, a10, a11, a12, a13, a14, a15, a16, a17, a18, a19, a20, a21, a22, a23, a24⟩ := u1
    refine tm_sendEnd h1 hA hQ1 hr ?_
    intro u2 T2 h2 hQ2 im2
    obtain ⟨at_, kc, kn, a1, a2, a3, a4, a5, a6, a7, a8, a9, a10, a11, a12, a13, a14, a15, a16, a17, a18, a19, a20, a21, a22, a23, a24⟩ := u2
    refine tm_lineOf (t := 0) h2.1 (by decide) (tm_B_Sb hA) hr ?_
    refine ⟨12 - k + 1, ?_⟩
    refine tm_sR34 hA hr hp (12 - k) k T2 at_ kc kn a1 a2 a3 a4 a5 a6 a7 a8 a9 a10 a11 a12 a13 a14 a15 a16 a17 a18 a19 a20 a21 a22 a23 a24 (by omega) h2 hQ2 (fun r' c hr' hc hP ht => im2 r' c hr' hc trivial (im1 r' c hr' hc (Or.inl hP) ht)) (fun d hd' => ?_)
    exact im2 r d hr (by omega) trivial (im1 r d hr (by omega) (Or.inr hd') (hd d hd'))
/-! rows as a whole -/
theorem tm_scT : ∀ k, k < 12 → (6 ≤ nI k - 5 ↔ 11 ≤ k) ∧ (nI k - 5 + 1 = nI (k + 1) - 5) ∧ (0 ≤ nI k - 5 ↔ 5 ≤ k) ∧ (nI k - 5 ≤ 0 ↔ k ≤ 5) ∧ (k ≤ 5 → -(nI k - 5) = nI (5 - k)) ∧ (5 ≤ k → nI k - 5 = nI (k - 5)) := by decide +kernel
theorem tm_sS13 {post : St1 → Prop} {A T : tm_T} {at_ kc kn a1 a2 a3 a4 a5 a6 a7 a8 a9 a10 a11 a12 a13 a14 a15 a16 a17 a18 a19 a20 a21 a22 a23 a24} (h : tm_E (at_, kc, kn, a1, a2, a3, a4, a5, a6, a7, a8, a9, a10, a11, a12, a13, a14, a15, a16, a17, a18, a19, a20, a21, a22, a23, a24) A T) (hA : tm_B A) (hQ : tm_Q T) (hp : ∀ u' T', tm_E u' A T' → tm_Q T' → post u') : ∀ (n k j : Nat) (m : Int32), k + n = 11 → j < 11 → wX_sendScroll_13 post at_ kc kn a1 a2 a3 a4 a5 a6 a7 a8 a9 a10 a11 a12 a13 a14 a15 a16 a17 a18 a19 a20 a21 a22 a23 a24 (n + 1) (nI j - 5) m (nI k - 5) := by
  intro n
  induction n with
  | zero =>
    intro k j m hk hj
    have tk := tm_scT k (by omega)
    have tj := tm_scT j (by omega)
    refine br_t (tk.1.mpr (by omega)) (br_c (fun z => br_c (fun y => ?_) (fun y => ?_)) (fun z => ?_))
    · exact hp _ T h hQ
    · have hle := tj.2.2.2.1.mp z
      have hlt : ¬ 5 ≤ j := fun q => y (tj.2.2.1.mpr q)
      rw [tj.2.2.2.2.1 hle]
      refine tm_sendOne h hQ (by omega) (by omega) (b := 84) (by decide) ?_
      intro u2 h2
      obtain ⟨at_, kc, kn, a1, a2, a3, a4, a5, a6, a7, a8, a9, a10, a11, a12, a13, a14, a15, a16, a17, a18, a19, a20, a21, a22, a23, a24⟩ := u2
      exact hp _ _ h2 (tm_f1_84 hQ (by omega))
    · have hlt : ¬ j ≤ 5 := fun q => z (tj.2.2.2.1.mpr q)
      rw [tj.2.2.2.2.2 (by omega)]
      refine tm_sendOne h hQ (by omega) (by omega) (b := 83) (by decide) ?_
      intro u2 h2
      obtain ⟨at_, kc, kn, a1, a2, a3, a4, a5, a6, a7, a8, a9, a10, a11, a12, a13, a14, a15, a16, a17, a18, a19, a20, a21, a22, a23, a24⟩ := u2
      exact hp _ _ h2 (tm_f1_83 hQ (by omega))
  | succ n ih =>
    intro k j m hk hj
    have tk := tm_scT k (by omega)
    refine br_f (fun z => absurd (tk.1.mp z) (by omega)) (tm_rightAfter h hA hQ.1.1.1 (fun v => br_c (fun _ => nm_r tk.2.1 ?_) (fun _ => nm_r tk.2.1 ?_)))
    · exact ih (k + 1) j m (by omega) hj
    · exact ih (k + 1) k v (by omega) (by omega)
theorem tm_sendScroll {post : St1 → Prop} {u : St1} {A T : tm_T} (h : tm_E u A T) (hA : tm_B A) (hQ : tm_Q T) (hp : ∀ u' T', tm_E u' A T' → tm_Q T' → post u') : wpX_sendScroll post u := by
  obtain ⟨at_, kc, kn, a1, a2, a3, a4, a5, a6, a7, a8, a9, a10, a11, a12, a13, a14, a15, a16, a17, a18, a19, a20, a21, a22, a23, a24⟩ := u
  unfold wpX_sendScroll
  refine tm_rightAfter h hA hQ.1.1.1 ?_
  exact (fun v => nm_e ⟨12, tm_sS13 h hA hQ hp 11 0 5 _ (by decide) (by decide)⟩)
theorem tm_rf15 {post : Int32 → St1 → Prop} {x : Int32} {A : tm_T} (hA : tm_B A) (hp : ∀ u' T', tm_E u' A T' → tm_Q T' → (∀ r c, r < 6 → c < 12 → tm_rt A T' r c) → post x u') : ∀ (n r : Nat) (T : tm_T) (at_ kc kn a1 a2 a3 a4 a5 a6 a7 a8 a9 a10 a11 a12 a13 a14 a15 a16 a17 a18 a19 a20 a21 a22 a23 a24), r + n = 6 → tm_E (at_, kc, kn, a1, a2, a3, a4, a5, a6, a7, a8, a9, a10, a11, a12, a13, a14, a15, a16, a17, a18, a19, a20, a21, a22, a23, a24) A T → tm_Q T → (∀ r' c, r' < r → c < 12 → tm_rt A T r' c) → wX_refresh_15 post x (n + 1) (nI r) at_ kc kn a1 a2 a3 a4 a5 a6 a7 a8 a9 a10 a11 a12 a13 a14 a15 a16 a17 a18 a19 a20 a21 a22 a23 a24 := by
  intro n
  induction n with
  | zero =>
    intro r T at_ kc kn a1 a2 a3 a4 a5 a6 a7 a8 a9 a10 a11 a12 a13 a14 a15 a16 a17 a18 a19 a20 a21 a22 a23 a24 hr h hQ hd
    exact pk_le 6 r (fun _ => hp _ T h hQ (fun r' c hr' hc => hd r' c (by omega) hc)) (fun z => absurd z (by omega))
  | succ n ih =>
    intro r T at_ kc kn a1 a2 a3 a4 a5 a6 a7 a8 a9 a10 a11 a12 a13 a14 a15 a16 a17 a18 a19 a20 a21 a22 a23 a24 hr h hQ hd
    refine pk_le 6 r (fun z => absurd z (by omega)) (fun _ => tm_sendRow h hA hQ (by omega) ?_)
    intro u1 T1 h1 hQ1 im1 hr1
    obtain ⟨at_, kc, kn, a1, a2, a3, a4, a5, a6, a7, a8, a9, a10, a11, a12, a13, a14, a15, a16, a17, a18, a19, a20, a21, a22, a23, a24⟩ := u1
    refine nm_r (nI_1 r) (ih (r + 1) T1 at_ kc kn a1 a2 a3 a4 a5 a6 a7 a8 a9 a10 a11 a12 a13 a14 a15 a16 a17 a18 a19 a20 a21 a22 a23 a24 (by omega) h1 hQ1 (fun r' c hr' hc => ?_))
    by_cases q : r' = r
    · rw [q]
      exact hr1 c hc
    · exact im1 r' c (by omega) hc q (hd r' c (by omega) hc)
theorem tm_refresh {post : Int32 → St1 → Prop} {u : St1} {A T : tm_T} (h : tm_E u A T) (hA : tm_B A) (hQ : tm_Q T) (hp : ∀ u' T', tm_E u' A T' → tm_Q T' → (∀ r c, r < 6 → c < 12 → tm_rt A T' r c) → post (nI (tm_sta A T)) u') : wpX_refresh post u := by
  obtain ⟨at_, kc, kn, a1, a2, a3, a4, a5, a6, a7, a8, a9, a10, a11, a12, a13, a14, a15, a16, a17, a18, a19, a20, a21, a22, a23, a24⟩ := u
  unfold wpX_refresh
  refine tm_stale h hA hQ.1.1.1 ?_
  refine br_c (fun _ => ⟨7, ?_⟩) (fun _ => tm_sendScroll h hA hQ ?_)
  · exact tm_rf15 hA hp 6 0 T at_ kc kn a1 a2 a3 a4 a5 a6 a7 a8 a9 a10 a11 a12 a13 a14 a15 a16 a17 a18 a19 a20 a21 a22 a23 a24 (by decide) h hQ (fun r' c hr' _ => absurd hr' (by omega))
  · intro u1 T1 h1 hQ1
    obtain ⟨at_, kc, kn, a1, a2, a3, a4, a5, a6, a7, a8, a9, a10, a11, a12, a13, a14, a15, a16, a17, a18, a19, a20, a21, a22, a23, a24⟩ := u1
    exact ⟨7, tm_rf15 hA hp 6 0 T1 at_ kc kn a1 a2 a3 a4 a5 a6 a7 a8 a9 a10 a11 a12 a13 a14 a15 a16 a17 a18 a19 a20 a21 a22 a23 a24 (by decide) h1 hQ1 (fun r' c hr' _ => absurd hr' (by omega))⟩
end
section
/-! a fresh object -/
def tm_P (T : tm_T) : Prop := ∀ f i, f ≠ 1 → tm_lw f ≤ T f i ∧ T f i ≤ tm_hg f
theorem tm_P_up {T : tm_T} {f i v : Nat} (h : tm_P T) (h1 : tm_lw f ≤ v) (h2 : v ≤ tm_hg f) : tm_P (tm_up T f i v) := by
  intro g j hg
  unfold tm_up
  split
  · rename_i z
    rw [z.1]
    exact ⟨h1, h2⟩
  · exact h g j hg
theorem tm_P_emp {l n c : Nat} {T : tm_T} (h : tm_P T) : tm_P (tm_emp l n c T) := by
  induction n generalizing c T with
  | zero => exact h
  | succ n ih => exact ih (tm_P_up (tm_P_up h (by decide) (by decide)) (by decide) (by decide))
theorem tm_P_erw {n r : Nat} {T : tm_T} (h : tm_P T) : tm_P (tm_erw n r T) := by
  induction n generalizing r T with
  | zero => exact h
  | succ n ih => exact ih (tm_P_emp h)
theorem tm_P_sl {k n r : Nat} {T : tm_T} (hk : k ≤ 1) (hr : r + n ≤ 6) (h : tm_P T) : tm_P (tm_sl k n r T) := by
  induction n generalizing r T with
  | zero => exact h
  | succ n ih => exact ih (by omega) (tm_P_up h (Nat.zero_le _) (show k * 6 + r ≤ 11 by omega))
theorem tm_erw_1 {n r b j : Nat} {T : tm_T} (hb : T 12 0 * 6 = b) (hs : ∀ q, r ≤ q → q < r + n → T 3 (b + q) = b + q) : tm_erw n r T 1 j = if (b + r) * 12 ≤ j ∧ j < (b + r + n) * 12 then 32 else T 1 j := by
  induction n generalizing r T with
  | zero =>
    rw [if_neg (by omega)]
    rfl
  | succ n ih =>
    have e : tm_ln T r = (b + r) * 12 := by
      unfold tm_ln
      rw [hb, hs r (by omega) (by omega)]
    have i := ih (r := r + 1) (T := tm_ec T r 0 12) (by rw [tm_ec_o (by decide) (by decide)]; exact hb) (fun q h1 h2 => by rw [tm_ec_o (by decide) (by decide)]; exact hs q (by omega) (by omega))
    refine i.trans ?_
    have e1 : tm_ec T r 0 12 1 j = if (b + r) * 12 + 0 ≤ j ∧ j < (b + r) * 12 + 0 + (12 - 0) then 32 else T 1 j := by
      unfold tm_ec
      rw [e]
      exact tm_emp_1
    rw [e1]
    by_cases z : (b + (r + 1)) * 12 ≤ j ∧ j < (b + (r + 1) + n) * 12
    · rw [if_pos z, if_pos (by omega)]
    · rw [if_neg z]
      by_cases y : (b + r) * 12 + 0 ≤ j ∧ j < (b + r) * 12 + 0 + (12 - 0)
      · rw [if_pos y, if_pos (by omega)]
      · rw [if_neg y, if_neg (by omega)]
theorem tm_sl_3 {T : tm_T} : ∀ q, q < 12 → tm_sl 1 6 0 (tm_sl 0 6 0 T) 3 q = q := by
  intro q hq
  have hq' : q = 0 ∨ q = 1 ∨ q = 2 ∨ q = 3 ∨ q = 4 ∨ q = 5 ∨ q = 6 ∨ q = 7 ∨ q = 8 ∨ q = 9 ∨ q = 10 ∨ q = 11 := by omega
  rcases hq' with rfl | rfl | rfl | rfl | rfl | rfl | rfl | rfl | rfl | rfl | rfl | rfl <;> rfl
theorem tm_ca1_3 {T : tm_T} : ∀ q, q < 12 → tm_ca1 T 3 q = q := by
  intro q hq
  unfold tm_ca1
  rw [tm_er_o (by decide) (by decide), tm_upF _ (by decide)]
  exact tm_sl_3 q hq
theorem tm_ca1_1 {T : tm_T} {j : Nat} : tm_ca1 T 1 j = if 72 ≤ j ∧ j < 144 then 32 else T 1 j := by
  have i := tm_erw_1 (n := 6) (r := 0) (b := 6) (j := j) (T := tm_up (tm_sl 1 6 0 (tm_sl 0 6 0 T)) 12 0 1) rfl (fun q h1 h2 => tm_sl_3 (6 + q) (by omega))
  unfold tm_ca1 tm_er
  rw [i, tm_upF _ (by decide), tm_sl_o (by decide), tm_sl_o (by decide)]
theorem tm_ca3_1 {T : tm_T} {j : Nat} : tm_ca3 T 1 j = if j < 144 then 32 else T 1 j := by
  have i := tm_erw_1 (n := 6) (r := 0) (b := 0) (j := j) (T := tm_up (tm_ca1 T) 12 0 0) rfl (fun q h1 h2 => by
    rw [Nat.zero_add]
    exact tm_ca1_3 q (by omega))
  rw [tm_ca3_u (by decide), tm_ca2_u (by decide) (by decide) (by decide) (by decide)]
  unfold tm_er
  rw [i, tm_upF _ (by decide), tm_ca1_1]
  by_cases z : j < 144
  · rw [if_pos z]
    by_cases y : (0 + 0) * 12 ≤ j ∧ j < (0 + 0 + 6) * 12
    · rw [if_pos y]
    · rw [if_neg y, if_pos (by omega)]
  · rw [if_neg z, if_neg (by omega), if_neg (by omega)]
def tm_Z : tm_T := fun f i => if f = 22 then 1 else if f = 1 then (if i < 144 then 0 else 32) else 0
theorem tm_P_Z : tm_P tm_Z := by
  intro f i hf
  unfold tm_Z
  split
  · rename_i z
    rw [z]
    exact ⟨by decide, by decide⟩
  · rename_i z
    refine ⟨?_, Nat.zero_le _⟩
    unfold tm_lw
    split
    · exact absurd rfl hf
    · exact absurd rfl z
    · exact Nat.le_refl 0
theorem tm_B_ca3 : tm_B (tm_ca3 tm_Z) := by
  have p1 : tm_P (tm_ca1 tm_Z) := by
    unfold tm_ca1 tm_er
    exact tm_P_erw (tm_P_up (tm_P_sl (by decide) (by decide) (tm_P_sl (by decide) (by decide) tm_P_Z)) (by decide) (by decide))
  have p2 : tm_P (tm_er (tm_up (tm_ca1 tm_Z) 12 0 0) 0 6) := by
    unfold tm_er
    exact tm_P_erw (tm_P_up p1 (by decide) (by decide))
  have p3 : tm_P (tm_ca3 tm_Z) := by
    unfold tm_ca3 tm_ca2 tm_wr tm_mt
    exact tm_P_up (tm_P_up (tm_P_up (tm_P_up (tm_P_up (tm_P_up (tm_P_up (tm_P_up (tm_P_up (tm_P_up (tm_P_up (tm_P_up p2 (by decide) (by decide)) (by decide) (by decide)) (by decide) (by decide)) (by decide) (by decide)) (by decide) (by decide)) (by decide) (by decide)) (by decide) (by decide)) (by decide) (by decide)) (by decide) (by decide)) (by decide) (by decide)) (by decide) (by decide)) (by decide) (by decide)
  intro f i
  by_cases z : f = 1
  · subst z
    rw [tm_ca3_1]
    by_cases y : i < 144
    · rw [if_pos y]
      exact ⟨by decide, by decide⟩
    · rw [if_neg y]
      show 32 ≤ tm_Z 1 i ∧ tm_Z 1 i ≤ 126
      have e : tm_Z 1 i = 32 := if_neg y
      rw [e]
      exact ⟨by decide, by decide⟩
  · exact p3 f i z
theorem tm_I_ca3Z : tm_I (tm_ca3 tm_Z) := by
  refine ⟨tm_B_ca3, (show 0 ≤ 5 by decide), ?_⟩
  rw [tm_ca3_o (by decide) (by decide), tm_ca3_o (by decide) (by decide)]
  exact Nat.le_refl _
theorem tm_N_ca3Z : tm_N (tm_ca3 tm_Z) := by
  intro i
  rw [tm_ca3_o (by decide) (by decide), tm_ca3_o (by decide) (by decide), tm_ca3_o (by decide) (by decide), tm_ca3_o (by decide) (by decide)]
  exact ⟨rfl, rfl, rfl, rfl⟩
theorem tm_Q_Z : tm_Q (tm_ca 1 tm_Z) := by
  show tm_Q (tm_ca3 tm_Z)
  refine ⟨⟨tm_I_ca3Z, fun z => ?_⟩, ⟨rfl, rfl, rfl, rfl, ?_, rfl⟩, tm_N_ca3Z, ?_⟩
  · have z' : 2 ≤ 0 := z
    omega
  · rw [tm_ca3_u (by decide), tm_ca2_u (by decide) (by decide) (by decide) (by decide), tm_er_o (by decide) (by decide), tm_upS]
  · intro r r' hr hr' e
    have e3 : ∀ q, q < 6 → tm_ca3 tm_Z 3 q = q := by
      intro q hq
      rw [tm_ca3_u (by decide), tm_ca2_u (by decide) (by decide) (by decide) (by decide), tm_er_o (by decide) (by decide), tm_upF _ (by decide)]
      exact tm_ca1_3 q (by omega)
    rw [e3 r hr, e3 r' hr'] at e
    exact e
/-- the invariant of the terminal that is fed -/
def tm_F (A : tm_T) : Prop := tm_J A ∧ (A 20 0 < 2 → tm_N A)
theorem tm_F_Z : tm_F (tm_ca 0 tm_Z) := by
  show tm_F (tm_up (tm_up (tm_ca3 tm_Z) 25 0 0) 26 0 0)
  refine ⟨⟨tm_I_up (tm_I_up tm_I_ca3Z (by decide) (by decide) (by decide) (by decide) (by decide) (by decide)) (by decide) (by decide) (by decide) (by decide) (by decide) (by decide), fun z => ?_⟩, fun _ i => ?_⟩
  · rw [tm_upF _ (by decide), tm_upF _ (by decide)] at z
    have z' : 2 ≤ 0 := z
    omega
  · have q := tm_N_ca3Z i
    rw [tm_upF _ (by decide), tm_upF _ (by decide), tm_upF _ (by decide), tm_upF _ (by decide), tm_upF _ (by decide), tm_upF _ (by decide), tm_upF _ (by decide), tm_upF _ (by decide)]
    exact q
theorem tm_F_rd {t b : Nat} {A : tm_T} (h : tm_J A) : tm_F (tm_rd t A b) := by
  refine ⟨tm_J_rd h, ?_⟩
  unfold tm_rd tm_no
  split
  · rename_i z
    intro y
    exact absurd z (by omega)
  · intro _
    exact tm_N_n0 _
theorem tm_init {post : St1 → Prop} (hp : ∀ u', tm_E u' (tm_ca 0 tm_Z) (tm_ca 1 tm_Z) → post u') : wpX_init post 24 742 (0, 0, 0) := by
  have h0 : tm_R (1, 0, 0, (fun _ => 0), (fun _ => 0), (fun _ => 0), (fun _ => 0), (fun _ => 0), (fun _ => 0), (fun _ => 0), (fun _ => 0), (fun _ => 0), (fun _ => 0), (fun _ => 0), (fun _ => 0), (fun _ => 0), (fun _ => 0), (fun _ => 0), (fun _ => 0), (fun _ => 0), (fun _ => 0), (fun _ => 0), (fun _ => 0), (fun _ => 0), (fun _ => 0), (fun _ => 0), (fun _ => 0)) 1 tm_Z tm_Z := by
    have e1 : ∀ j, j < 144 → (0 : Int32) = nI (tm_Z 1 j) := fun j hj => by
      have e : tm_Z 1 j = 0 := if_pos hj
      rw [e]
      rfl
    refine (And.intro (rfl) (And.intro (by decide) (And.intro (?_) (?_))))
    · exact (And.intro (e1) (And.intro (fun _ _ => rfl) (And.intro (fun _ _ => rfl) (And.intro (rfl) (And.intro (rfl) (And.intro (rfl) (And.intro (rfl) (And.intro (rfl) (And.intro (rfl) (And.intro (rfl) (And.intro (rfl) (And.intro (rfl) (And.intro (rfl) (And.intro (rfl) (And.intro (rfl) (And.intro (rfl) (And.intro (rfl) (And.intro (rfl) (And.intro (rfl) (And.intro (rfl) (And.intro (fun z => absurd (show (0 : Nat) = 1 from z) (by decide)) (fun z => absurd z (by decide)))))))))))))))))))))))
    · exact (And.intro (e1) (And.intro (fun _ _ => rfl) (And.intro (fun _ _ => rfl) (And.intro (rfl) (And.intro (rfl) (And.intro (rfl) (And.intro (rfl) (And.intro (rfl) (And.intro (rfl) (And.intro (rfl) (And.intro (rfl) (And.intro (rfl) (And.intro (rfl) (And.intro (rfl) (And.intro (rfl) (And.intro (rfl) (And.intro (rfl) (And.intro (rfl) (And.intro (rfl) (And.intro (rfl) (And.intro (fun z => absurd (show (0 : Nat) = 1 from z) (by decide)) (fun _ => (And.intro (rfl) (And.intro (rfl) (fun _ _ => rfl)))))))))))))))))))))))))
  refine (And.intro (by decide) (And.intro (by decide) (And.intro (by decide) (And.intro (by decide) (And.intro (by decide) (And.intro (by decide) (And.intro (by decide) (And.intro (by decide) (And.intro (by decide) (And.intro (by decide) (And.intro (by decide) (And.intro (by decide) (And.intro (by decide) (And.intro (by decide) (And.intro (by decide) (And.intro (by decide) (And.intro (by decide) (And.intro (by decide) (And.intro (by decide) (And.intro (by decide) (And.intro (by decide) (And.intro (by decide) (And.intro (by decide) (And.intro (by decide) (And.intro (by decide) (And.intro (by decide) (And.intro (by decide) (And.intro (by decide) (And.intro (by decide) (And.intro (by decide) (And.intro (by decide) (And.intro (by decide) (And.intro (by decide) (And.intro (by decide) (And.intro (by decide) (And.intro (by decide) (And.intro (by decide) (And.intro (by decide) (And.intro (by decide) (And.intro (by decide) (And.intro (by decide) (And.intro (by decide) (And.intro (by decide) (And.intro (by decide) (And.intro (by decide) (And.intro (by decide) (And.intro (by decide) (And.intro (by decide) (?_)))))))))))))))))))))))))))))))))))))))))))))))))
  refine tm_clearAll h0 (fun i => Nat.zero_le 11) ?_
  intro u1 h1
  obtain ⟨at_, kc, kn, a1, a2, a3, a4, a5, a6, a7, a8, a9, a10, a11, a12, a13, a14, a15, a16, a17, a18, a19, a20, a21, a22, a23, a24⟩ := u1
  have h2 : tm_R (0, kc, kn, a1, a2, a3, a4, a5, a6, a7, a8, a9, a10, a11, a12, a13, a14, a15, a16, a17, a18, a19, a20, a21, a22, a23, a24) 0 tm_Z (tm_ca 1 tm_Z) := (And.intro (rfl) (And.intro (by decide) (And.intro (h1.2.2.2) (h1.2.2.1))))
  refine tm_clearAll h2 (fun i => Nat.zero_le 11) ?_
  intro u2 h3
  obtain ⟨at_, kc, kn, a1, a2, a3, a4, a5, a6, a7, a8, a9, a10, a11, a12, a13, a14, a15, a16, a17, a18, a19, a20, a21, a22, a23, a24⟩ := u2
  exact hp _ (tm_E0 h3)
/-! feeding -/
theorem tm_feedN {post : Int32 → St1 → Prop} {u : St1} {b : Nat} {A B : tm_T} {x : Int32} (h : tm_E u A B) (hJ : tm_J A) (hb : b < 128) (hx : x = nI b) (hp : ∀ u', tm_E u' (tm_rd 0 A b) B → post 1 u') : wpX_feed post u x := by
  obtain ⟨at_, kc, kn, a1, a2, a3, a4, a5, a6, a7, a8, a9, a10, a11, a12, a13, a14, a15, a16, a17, a18, a19, a20, a21, a22, a23, a24⟩ := u
  subst hx
  refine br_f (nI_pos (by omega)) (br_t (nI_le (b := 127) (by omega) (by decide)) ?_)
  exact tm_read (t := 0) h.1 h.2 (by decide) hJ hb (fun u' h' => by obtain ⟨at_, kc, kn, a1, a2, a3, a4, a5, a6, a7, a8, a9, a10, a11, a12, a13, a14, a15, a16, a17, a18, a19, a20, a21, a22, a23, a24⟩ := u'; exact hp _ (tm_E0 h'))
theorem tm_feed0 {post : Int32 → St1 → Prop} {u : St1} {x : Int32} (hx : x < 0 ∨ ¬ x ≤ 127) (hp : post 0 u) : wpX_feed post u x := by
  obtain ⟨at_, kc, kn, a1, a2, a3, a4, a5, a6, a7, a8, a9, a10, a11, a12, a13, a14, a15, a16, a17, a18, a19, a20, a21, a22, a23, a24⟩ := u
  refine br_c (fun _ => hp) (fun z => br_f ?_ hp)
  rcases hx with y | y
  · exact absurd y z
  · exact y
theorem tm_f3b {n : Nat} (hn : n ≤ 2097151) : nI n &&& 127 = nI (n % 128) ∧ (nI n >>> ((7 : Int32) &&& 31)) &&& 127 = nI (n / 128 % 128) ∧ nI n >>> ((14 : Int32) &&& 31) = nI (n / 16384) := by
  refine ⟨pk_andN (by omega) 7 (by decide), ?_, ?_⟩
  · rw [pk_shrN (by omega) _ 7 (by decide)]
    exact pk_andN (by omega) 7 (by decide)
  · rw [pk_shrN (by omega) _ 14 (by decide)]
theorem tm_feed3N {post : Int32 → St1 → Prop} {u : St1} {n : Nat} {A B : tm_T} {x : Int32} (h : tm_E u A B) (hJ : tm_J A) (hn : n ≤ 2097151) (hx : x = nI n) (hp : ∀ u', tm_E u' (tm_rd 0 (tm_rd 0 (tm_rd 0 A (n % 128)) (n / 128 % 128)) (n / 16384)) B → post 1 u') : wpX_feedThree post u x := by
  obtain ⟨at_, kc, kn, a1, a2, a3, a4, a5, a6, a7, a8, a9, a10, a11, a12, a13, a14, a15, a16, a17, a18, a19, a20, a21, a22, a23, a24⟩ := u
  subst hx
  have e := tm_f3b hn
  refine br_f (nI_pos (by omega)) (br_t (nI_le (b := 2097151) hn (by decide)) ?_)
  rw [e.1, e.2.1, e.2.2]
  refine tm_read (t := 0) h.1 h.2 (by decide) hJ (by omega) ?_
  intro u1 h1
  obtain ⟨at_, kc, kn, a1, a2, a3, a4, a5, a6, a7, a8, a9, a10, a11, a12, a13, a14, a15, a16, a17, a18, a19, a20, a21, a22, a23, a24⟩ := u1
  have h1' := tm_E0 h1
  refine tm_read (t := 0) h1'.1 h1'.2 (by decide) (tm_J_rd hJ) (by omega) ?_
  intro u2 h2
  obtain ⟨at_, kc, kn, a1, a2, a3, a4, a5, a6, a7, a8, a9, a10, a11, a12, a13, a14, a15, a16, a17, a18, a19, a20, a21, a22, a23, a24⟩ := u2
  have h2' := tm_E0 h2
  refine tm_read (t := 0) h2'.1 h2'.2 (by decide) (tm_J_rd (tm_J_rd hJ)) (by omega) ?_
  intro u3 h3
  obtain ⟨at_, kc, kn, a1, a2, a3, a4, a5, a6, a7, a8, a9, a10, a11, a12, a13, a14, a15, a16, a17, a18, a19, a20, a21, a22, a23, a24⟩ := u3
  exact hp _ (tm_E0 h3)
theorem tm_feed30 {post : Int32 → St1 → Prop} {u : St1} {x : Int32} (hx : x < 0 ∨ ¬ x ≤ 2097151) (hp : post 0 u) : wpX_feedThree post u x := by
  obtain ⟨at_, kc, kn, a1, a2, a3, a4, a5, a6, a7, a8, a9, a10, a11, a12, a13, a14, a15, a16, a17, a18, a19, a20, a21, a22, a23, a24⟩ := u
  refine br_c (fun _ => hp) (fun z => br_f ?_ hp)
  rcases hx with y | y
  · exact absurd y z
  · exact y
/-- a feed of any int: what becomes of the picture hangs on the picture and the int alone -/
def tm_fF (A : tm_T) (x : Int32) (A' : tm_T) : Prop := tm_F A' ∧ ∀ (post : Int32 → St1 → Prop) (u : St1) (B : tm_T), tm_E u A B → (∀ r u', tm_E u' A' B → post r u') → wpX_feed post u x
theorem tm_feedAny {A : tm_T} (x : Int32) (hF : tm_F A) : ∃ A', tm_fF A x A' := by
  by_cases z : x < 0 ∨ ¬ x ≤ 127
  · exact ⟨A, hF, fun post u B h hp => tm_feed0 z (hp _ _ h)⟩
  · have z1 : ¬ x < 0 := fun y => z (Or.inl y)
    have z2 : x ≤ 127 := Decidable.byContradiction (fun y => z (Or.inr y))
    obtain ⟨b, hb, e⟩ := nI_of2 (n := 127) (by decide) z1 z2
    exact ⟨tm_rd 0 A b, tm_F_rd hF.1, fun post u B h hp => tm_feedN h hF.1 (by omega) e (fun u' h' => hp _ _ h')⟩
def tm_gF (A : tm_T) (x : Int32) (A' : tm_T) : Prop := tm_F A' ∧ ∀ (post : Int32 → St1 → Prop) (u : St1) (B : tm_T), tm_E u A B → (∀ r u', tm_E u' A' B → post r u') → wpX_feedThree post u x
theorem tm_feed3Any {A : tm_T} (x : Int32) (hF : tm_F A) : ∃ A', tm_gF A x A' := by
  by_cases z : x < 0 ∨ ¬ x ≤ 2097151
  · exact ⟨A, hF, fun post u B h hp => tm_feed30 z (hp _ _ h)⟩
  · have z1 : ¬ x < 0 := fun y => z (Or.inl y)
    have z2 : x ≤ 2097151 := Decidable.byContradiction (fun y => z (Or.inr y))
    obtain ⟨b, hb, e⟩ := nI_of2 (n := 2097151) (by decide) z1 z2
    exact ⟨_, tm_F_rd (tm_J_rd (tm_J_rd hF.1)), fun post u B h hp => tm_feed3N h hF.1 hb e (fun u' h' => hp _ _ h')⟩
end
section
/-! the bytes of a script's int: what becomes of the picture hangs on the picture and the int alone -/
theorem tm_last226 {A : tm_T} (hF : tm_F A) (x z : Int32) : ∃ A', tm_F A' ∧ ∀ (post : St1 → Prop) (at_ kc kn a1 a2 a3 a4 a5 a6 a7 a8 a9 a10 a11 a12 a13 a14 a15 a16 a17 a18 a19 a20 a21 a22 a23 a24) (B : tm_T), tm_E (at_, kc, kn, a1, a2, a3, a4, a5, a6, a7, a8, a9, a10, a11, a12, a13, a14, a15, a16, a17, a18, a19, a20, a21, a22, a23, a24) A B → (∀ u', tm_E u' A' B → post u') → wL_last_226 post x z at_ kc kn a1 a2 a3 a4 a5 a6 a7 a8 a9 a10 a11 a12 a13 a14 a15 a16 a17 a18 a19 a20 a21 a22 a23 a24 := by
  obtain ⟨A1, f1, h1⟩ := tm_feed3Any ((59 + (128 * (48 + x))) + (16384 * z)) hF
  exact ⟨A1, f1, fun post at_ kc kn a1 a2 a3 a4 a5 a6 a7 a8 a9 a10 a11 a12 a13 a14 a15 a16 a17 a18 a19 a20 a21 a22 a23 a24 B h hp => by unfold wL_last_226; exact h1 _ _ B h (fun _ u' h' => by obtain ⟨at_, kc, kn, a1, a2, a3, a4, a5, a6, a7, a8, a9, a10, a11, a12, a13, a14, a15, a16, a17, a18, a19, a20, a21, a22, a23, a24⟩ := u'; exact hp _ h')⟩
theorem tm_last21 {A : tm_T} (hF : tm_F A) (x z : Int32) : ∃ A', tm_F A' ∧ ∀ (post : St1 → Prop) (at_ kc kn a1 a2 a3 a4 a5 a6 a7 a8 a9 a10 a11 a12 a13 a14 a15 a16 a17 a18 a19 a20 a21 a22 a23 a24) (B : tm_T), tm_E (at_, kc, kn, a1, a2, a3, a4, a5, a6, a7, a8, a9, a10, a11, a12, a13, a14, a15, a16, a17, a18, a19, a20, a21, a22, a23, a24) A B → (∀ u', tm_E u' A' B → post u') → wL_last_21 post x z at_ kc kn a1 a2 a3 a4 a5 a6 a7 a8 a9 a10 a11 a12 a13 a14 a15 a16 a17 a18 a19 a20 a21 a22 a23 a24 := by
  obtain ⟨A1, f1, h1⟩ := tm_feed3Any z hF
  by_cases c : x &&& 1 = 0
  · obtain ⟨A2, f2, h2⟩ := tm_feedAny 108 f1
    exact ⟨A2, f2, fun post at_ kc kn a1 a2 a3 a4 a5 a6 a7 a8 a9 a10 a11 a12 a13 a14 a15 a16 a17 a18 a19 a20 a21 a22 a23 a24 B h hp => by unfold wL_last_21; exact h1 _ _ B h (fun _ u' h' => by obtain ⟨at_, kc, kn, a1, a2, a3, a4, a5, a6, a7, a8, a9, a10, a11, a12, a13, a14, a15, a16, a17, a18, a19, a20, a21, a22, a23, a24⟩ := u'; refine br_t c ?_; unfold wL_last_39; exact (h2 _ _ B h' (fun _ u' h' => by obtain ⟨at_, kc, kn, a1, a2, a3, a4, a5, a6, a7, a8, a9, a10, a11, a12, a13, a14, a15, a16, a17, a18, a19, a20, a21, a22, a23, a24⟩ := u'; exact hp _ h')))⟩
  · obtain ⟨A2, f2, h2⟩ := tm_feedAny 32 f1
    exact ⟨A2, f2, fun post at_ kc kn a1 a2 a3 a4 a5 a6 a7 a8 a9 a10 a11 a12 a13 a14 a15 a16 a17 a18 a19 a20 a21 a22 a23 a24 B h hp => by unfold wL_last_21; exact h1 _ _ B h (fun _ u' h' => by obtain ⟨at_, kc, kn, a1, a2, a3, a4, a5, a6, a7, a8, a9, a10, a11, a12, a13, a14, a15, a16, a17, a18, a19, a20, a21, a22, a23, a24⟩ := u'; refine br_f c ?_; unfold wL_last_39; exact (h2 _ _ B h' (fun _ u' h' => by obtain ⟨at_, kc, kn, a1, a2, a3, a4, a5, a6, a7, a8, a9, a10, a11, a12, a13, a14, a15, a16, a17, a18, a19, a20, a21, a22, a23, a24⟩ := u'; exact hp _ h')))⟩
theorem tm_last {A : tm_T} (hF : tm_F A) (p1 p2 p3 p4 : Int32) : ∃ A', tm_F A' ∧ ∀ (post : St1 → Prop) (u : St1) (B : tm_T), tm_E u A B → (∀ u', tm_E u' A' B → post u') → wpL_last post u p1 p2 p3 p4 := by
  by_cases c0 : p1 = 8
  · by_cases c1 : p2 &&& 1 = 0
    · obtain ⟨A1, f1, K⟩ := tm_last21 hF p3 13367
      exact ⟨A1, f1, fun post u B h hp => by obtain ⟨at_, kc, kn, a1, a2, a3, a4, a5, a6, a7, a8, a9, a10, a11, a12, a13, a14, a15, a16, a17, a18, a19, a20, a21, a22, a23, a24⟩ := u; exact br_t c0 (br_t c1 (K _ at_ kc kn a1 a2 a3 a4 a5 a6 a7 a8 a9 a10 a11 a12 a13 a14 a15 a16 a17 a18 a19 a20 a21 a22 a23 a24 B h hp))⟩
    · obtain ⟨A1, f1, K⟩ := tm_last21 hF p3 1711284
      exact ⟨A1, f1, fun post u B h hp => by obtain ⟨at_, kc, kn, a1, a2, a3, a4, a5, a6, a7, a8, a9, a10, a11, a12, a13, a14, a15, a16, a17, a18, a19, a20, a21, a22, a23, a24⟩ := u; exact br_t c0 (br_f c1 (K _ at_ kc kn a1 a2 a3 a4 a5 a6 a7 a8 a9 a10 a11 a12 a13 a14 a15 a16 a17 a18 a19 a20 a21 a22 a23 a24 B h hp))⟩
  · skip
    by_cases c1 : 8 ≤ p4 - p4 / 22 * 22
    · by_cases c2 : p4 - p4 / 22 * 22 = 8
      · obtain ⟨A1, f1, K⟩ := tm_last226 hF p3 72
        exact ⟨A1, f1, fun post u B h hp => by obtain ⟨at_, kc, kn, a1, a2, a3, a4, a5, a6, a7, a8, a9, a10, a11, a12, a13, a14, a15, a16, a17, a18, a19, a20, a21, a22, a23, a24⟩ := u; exact br_f c0 (And.intro (by decide) (nm_e (br_t c1 (br_t c2 (K _ at_ kc kn a1 a2 a3 a4 a5 a6 a7 a8 a9 a10 a11 a12 a13 a14 a15 a16 a17 a18 a19 a20 a21 a22 a23 a24 B h hp)))))⟩
      · by_cases c3 : p4 - p4 / 22 * 22 = 9
        · obtain ⟨A1, f1, K⟩ := tm_last226 hF p3 74
          exact ⟨A1, f1, fun post u B h hp => by obtain ⟨at_, kc, kn, a1, a2, a3, a4, a5, a6, a7, a8, a9, a10, a11, a12, a13, a14, a15, a16, a17, a18, a19, a20, a21, a22, a23, a24⟩ := u; exact br_f c0 (And.intro (by decide) (nm_e (br_t c1 (br_f c2 (br_t c3 (K _ at_ kc kn a1 a2 a3 a4 a5 a6 a7 a8 a9 a10 a11 a12 a13 a14 a15 a16 a17 a18 a19 a20 a21 a22 a23 a24 B h hp))))))⟩
        · by_cases c4 : p4 - p4 / 22 * 22 = 10
          · obtain ⟨A1, f1, K⟩ := tm_last226 hF p3 75
            exact ⟨A1, f1, fun post u B h hp => by obtain ⟨at_, kc, kn, a1, a2, a3, a4, a5, a6, a7, a8, a9, a10, a11, a12, a13, a14, a15, a16, a17, a18, a19, a20, a21, a22, a23, a24⟩ := u; exact br_f c0 (And.intro (by decide) (nm_e (br_t c1 (br_f c2 (br_f c3 (br_t c4 (K _ at_ kc kn a1 a2 a3 a4 a5 a6 a7 a8 a9 a10 a11 a12 a13 a14 a15 a16 a17 a18 a19 a20 a21 a22 a23 a24 B h hp)))))))⟩
          · by_cases c5 : p4 - p4 / 22 * 22 = 11
            · obtain ⟨A1, f1, K⟩ := tm_last226 hF p3 76
              exact ⟨A1, f1, fun post u B h hp => by obtain ⟨at_, kc, kn, a1, a2, a3, a4, a5, a6, a7, a8, a9, a10, a11, a12, a13, a14, a15, a16, a17, a18, a19, a20, a21, a22, a23, a24⟩ := u; exact br_f c0 (And.intro (by decide) (nm_e (br_t c1 (br_f c2 (br_f c3 (br_f c4 (br_t c5 (K _ at_ kc kn a1 a2 a3 a4 a5 a6 a7 a8 a9 a10 a11 a12 a13 a14 a15 a16 a17 a18 a19 a20 a21 a22 a23 a24 B h hp))))))))⟩
            · by_cases c6 : p4 - p4 / 22 * 22 = 12
              · obtain ⟨A1, f1, K⟩ := tm_last226 hF p3 77
                exact ⟨A1, f1, fun post u B h hp => by obtain ⟨at_, kc, kn, a1, a2, a3, a4, a5, a6, a7, a8, a9, a10, a11, a12, a13, a14, a15, a16, a17, a18, a19, a20, a21, a22, a23, a24⟩ := u; exact br_f c0 (And.intro (by decide) (nm_e (br_t c1 (br_f c2 (br_f c3 (br_f c4 (br_f c5 (br_t c6 (K _ at_ kc kn a1 a2 a3 a4 a5 a6 a7 a8 a9 a10 a11 a12 a13 a14 a15 a16 a17 a18 a19 a20 a21 a22 a23 a24 B h hp)))))))))⟩
              · by_cases c7 : p4 - p4 / 22 * 22 = 13
                · obtain ⟨A1, f1, K⟩ := tm_last226 hF p3 80
                  exact ⟨A1, f1, fun post u B h hp => by obtain ⟨at_, kc, kn, a1, a2, a3, a4, a5, a6, a7, a8, a9, a10, a11, a12, a13, a14, a15, a16, a17, a18, a19, a20, a21, a22, a23, a24⟩ := u; exact br_f c0 (And.intro (by decide) (nm_e (br_t c1 (br_f c2 (br_f c3 (br_f c4 (br_f c5 (br_f c6 (br_t c7 (K _ at_ kc kn a1 a2 a3 a4 a5 a6 a7 a8 a9 a10 a11 a12 a13 a14 a15 a16 a17 a18 a19 a20 a21 a22 a23 a24 B h hp))))))))))⟩
                · by_cases c8 : p4 - p4 / 22 * 22 = 14
                  · obtain ⟨A1, f1, K⟩ := tm_last226 hF p3 83
                    exact ⟨A1, f1, fun post u B h hp => by obtain ⟨at_, kc, kn, a1, a2, a3, a4, a5, a6, a7, a8, a9, a10, a11, a12, a13, a14, a15, a16, a17, a18, a19, a20, a21, a22, a23, a24⟩ := u; exact br_f c0 (And.intro (by decide) (nm_e (br_t c1 (br_f c2 (br_f c3 (br_f c4 (br_f c5 (br_f c6 (br_f c7 (br_t c8 (K _ at_ kc kn a1 a2 a3 a4 a5 a6 a7 a8 a9 a10 a11 a12 a13 a14 a15 a16 a17 a18 a19 a20 a21 a22 a23 a24 B h hp)))))))))))⟩
                  · by_cases c9 : p4 - p4 / 22 * 22 = 15
                    · obtain ⟨A1, f1, K⟩ := tm_last226 hF p3 84
                      exact ⟨A1, f1, fun post u B h hp => by obtain ⟨at_, kc, kn, a1, a2, a3, a4, a5, a6, a7, a8, a9, a10, a11, a12, a13, a14, a15, a16, a17, a18, a19, a20, a21, a22, a23, a24⟩ := u; exact br_f c0 (And.intro (by decide) (nm_e (br_t c1 (br_f c2 (br_f c3 (br_f c4 (br_f c5 (br_f c6 (br_f c7 (br_f c8 (br_t c9 (K _ at_ kc kn a1 a2 a3 a4 a5 a6 a7 a8 a9 a10 a11 a12 a13 a14 a15 a16 a17 a18 a19 a20 a21 a22 a23 a24 B h hp))))))))))))⟩
                    · by_cases c10 : p4 - p4 / 22 * 22 = 16
                      · obtain ⟨A1, f1, K⟩ := tm_last226 hF p3 88
                        exact ⟨A1, f1, fun post u B h hp => by obtain ⟨at_, kc, kn, a1, a2, a3, a4, a5, a6, a7, a8, a9, a10, a11, a12, a13, a14, a15, a16, a17, a18, a19, a20, a21, a22, a23, a24⟩ := u; exact br_f c0 (And.intro (by decide) (nm_e (br_t c1 (br_f c2 (br_f c3 (br_f c4 (br_f c5 (br_f c6 (br_f c7 (br_f c8 (br_f c9 (br_t c10 (K _ at_ kc kn a1 a2 a3 a4 a5 a6 a7 a8 a9 a10 a11 a12 a13 a14 a15 a16 a17 a18 a19 a20 a21 a22 a23 a24 B h hp)))))))))))))⟩
                      · by_cases c11 : p4 - p4 / 22 * 22 = 17
                        · obtain ⟨A1, f1, K⟩ := tm_last226 hF p3 100
                          exact ⟨A1, f1, fun post u B h hp => by obtain ⟨at_, kc, kn, a1, a2, a3, a4, a5, a6, a7, a8, a9, a10, a11, a12, a13, a14, a15, a16, a17, a18, a19, a20, a21, a22, a23, a24⟩ := u; exact br_f c0 (And.intro (by decide) (nm_e (br_t c1 (br_f c2 (br_f c3 (br_f c4 (br_f c5 (br_f c6 (br_f c7 (br_f c8 (br_f c9 (br_f c10 (br_t c11 (K _ at_ kc kn a1 a2 a3 a4 a5 a6 a7 a8 a9 a10 a11 a12 a13 a14 a15 a16 a17 a18 a19 a20 a21 a22 a23 a24 B h hp))))))))))))))⟩
                        · by_cases c12 : p4 - p4 / 22 * 22 = 18
                          · obtain ⟨A1, f1, K⟩ := tm_last226 hF p3 114
                            exact ⟨A1, f1, fun post u B h hp => by obtain ⟨at_, kc, kn, a1, a2, a3, a4, a5, a6, a7, a8, a9, a10, a11, a12, a13, a14, a15, a16, a17, a18, a19, a20, a21, a22, a23, a24⟩ := u; exact br_f c0 (And.intro (by decide) (nm_e (br_t c1 (br_f c2 (br_f c3 (br_f c4 (br_f c5 (br_f c6 (br_f c7 (br_f c8 (br_f c9 (br_f c10 (br_f c11 (br_t c12 (K _ at_ kc kn a1 a2 a3 a4 a5 a6 a7 a8 a9 a10 a11 a12 a13 a14 a15 a16 a17 a18 a19 a20 a21 a22 a23 a24 B h hp)))))))))))))))⟩
                          · by_cases c13 : p4 - p4 / 22 * 22 = 19
                            · obtain ⟨A1, f1, K⟩ := tm_last226 hF p3 109
                              exact ⟨A1, f1, fun post u B h hp => by obtain ⟨at_, kc, kn, a1, a2, a3, a4, a5, a6, a7, a8, a9, a10, a11, a12, a13, a14, a15, a16, a17, a18, a19, a20, a21, a22, a23, a24⟩ := u; exact br_f c0 (And.intro (by decide) (nm_e (br_t c1 (br_f c2 (br_f c3 (br_f c4 (br_f c5 (br_f c6 (br_f c7 (br_f c8 (br_f c9 (br_f c10 (br_f c11 (br_f c12 (br_t c13 (K _ at_ kc kn a1 a2 a3 a4 a5 a6 a7 a8 a9 a10 a11 a12 a13 a14 a15 a16 a17 a18 a19 a20 a21 a22 a23 a24 B h hp))))))))))))))))⟩
                            · by_cases c14 : p4 - p4 / 22 * 22 = 20
                              · obtain ⟨A1, f1, K⟩ := tm_last226 hF p3 104
                                exact ⟨A1, f1, fun post u B h hp => by obtain ⟨at_, kc, kn, a1, a2, a3, a4, a5, a6, a7, a8, a9, a10, a11, a12, a13, a14, a15, a16, a17, a18, a19, a20, a21, a22, a23, a24⟩ := u; exact br_f c0 (And.intro (by decide) (nm_e (br_t c1 (br_f c2 (br_f c3 (br_f c4 (br_f c5 (br_f c6 (br_f c7 (br_f c8 (br_f c9 (br_f c10 (br_f c11 (br_f c12 (br_f c13 (br_t c14 (K _ at_ kc kn a1 a2 a3 a4 a5 a6 a7 a8 a9 a10 a11 a12 a13 a14 a15 a16 a17 a18 a19 a20 a21 a22 a23 a24 B h hp)))))))))))))))))⟩
                              · obtain ⟨A1, f1, K⟩ := tm_last226 hF p3 108
                                exact ⟨A1, f1, fun post u B h hp => by obtain ⟨at_, kc, kn, a1, a2, a3, a4, a5, a6, a7, a8, a9, a10, a11, a12, a13, a14, a15, a16, a17, a18, a19, a20, a21, a22, a23, a24⟩ := u; exact br_f c0 (And.intro (by decide) (nm_e (br_t c1 (br_f c2 (br_f c3 (br_f c4 (br_f c5 (br_f c6 (br_f c7 (br_f c8 (br_f c9 (br_f c10 (br_f c11 (br_f c12 (br_f c13 (br_f c14 (K _ at_ kc kn a1 a2 a3 a4 a5 a6 a7 a8 a9 a10 a11 a12 a13 a14 a15 a16 a17 a18 a19 a20 a21 a22 a23 a24 B h hp)))))))))))))))))⟩
    · obtain ⟨A1, f1, K⟩ := tm_last226 hF p3 (64 + (p4 - p4 / 22 * 22))
      exact ⟨A1, f1, fun post u B h hp => by obtain ⟨at_, kc, kn, a1, a2, a3, a4, a5, a6, a7, a8, a9, a10, a11, a12, a13, a14, a15, a16, a17, a18, a19, a20, a21, a22, a23, a24⟩ := u; exact br_f c0 (And.intro (by decide) (nm_e (br_f c1 (K _ at_ kc kn a1 a2 a3 a4 a5 a6 a7 a8 a9 a10 a11 a12 a13 a14 a15 a16 a17 a18 a19 a20 a21 a22 a23 a24 B h hp))))⟩
theorem tm_by223 {A : tm_T} (hF : tm_F A) (x1 x2 x3 x4 z0 z1 z2 : Int32) : ∃ A', tm_F A' ∧ ∀ (post : St1 → Prop) (at_ kc kn a1 a2 a3 a4 a5 a6 a7 a8 a9 a10 a11 a12 a13 a14 a15 a16 a17 a18 a19 a20 a21 a22 a23 a24) (B : tm_T), tm_E (at_, kc, kn, a1, a2, a3, a4, a5, a6, a7, a8, a9, a10, a11, a12, a13, a14, a15, a16, a17, a18, a19, a20, a21, a22, a23, a24) A B → (∀ u', tm_E u' A' B → post u') → wL_bytes_223 post x1 x2 x3 x4 z0 z1 z2 at_ kc kn a1 a2 a3 a4 a5 a6 a7 a8 a9 a10 a11 a12 a13 a14 a15 a16 a17 a18 a19 a20 a21 a22 a23 a24 := by
  obtain ⟨A1, f1, h1⟩ := tm_feed3Any (z2 + (z1 * z0)) hF
  obtain ⟨A2, f2, h2⟩ := tm_last f1 x2 x3 x4 ((x1 >>> ((10 : Int32) &&& 31)) &&& 31)
  exact ⟨A2, f2, fun post at_ kc kn a1 a2 a3 a4 a5 a6 a7 a8 a9 a10 a11 a12 a13 a14 a15 a16 a17 a18 a19 a20 a21 a22 a23 a24 B h hp => by unfold wL_bytes_223; exact h1 _ _ B h (fun _ u' h' => by obtain ⟨at_, kc, kn, a1, a2, a3, a4, a5, a6, a7, a8, a9, a10, a11, a12, a13, a14, a15, a16, a17, a18, a19, a20, a21, a22, a23, a24⟩ := u'; exact h2 _ _ B h' (fun u' h' => by obtain ⟨at_, kc, kn, a1, a2, a3, a4, a5, a6, a7, a8, a9, a10, a11, a12, a13, a14, a15, a16, a17, a18, a19, a20, a21, a22, a23, a24⟩ := u'; exact hp _ h'))⟩
theorem tm_by182 {A : tm_T} (hF : tm_F A) (z : Int32) : ∃ A', tm_F A' ∧ ∀ (post : St1 → Prop) (at_ kc kn a1 a2 a3 a4 a5 a6 a7 a8 a9 a10 a11 a12 a13 a14 a15 a16 a17 a18 a19 a20 a21 a22 a23 a24) (B : tm_T), tm_E (at_, kc, kn, a1, a2, a3, a4, a5, a6, a7, a8, a9, a10, a11, a12, a13, a14, a15, a16, a17, a18, a19, a20, a21, a22, a23, a24) A B → (∀ u', tm_E u' A' B → post u') → wL_bytes_182 post z at_ kc kn a1 a2 a3 a4 a5 a6 a7 a8 a9 a10 a11 a12 a13 a14 a15 a16 a17 a18 a19 a20 a21 a22 a23 a24 := by
  obtain ⟨A1, f1, h1⟩ := tm_feedAny 27 hF
  obtain ⟨A2, f2, h2⟩ := tm_feedAny z f1
  exact ⟨A2, f2, fun post at_ kc kn a1 a2 a3 a4 a5 a6 a7 a8 a9 a10 a11 a12 a13 a14 a15 a16 a17 a18 a19 a20 a21 a22 a23 a24 B h hp => by unfold wL_bytes_182; exact h1 _ _ B h (fun _ u' h' => by obtain ⟨at_, kc, kn, a1, a2, a3, a4, a5, a6, a7, a8, a9, a10, a11, a12, a13, a14, a15, a16, a17, a18, a19, a20, a21, a22, a23, a24⟩ := u'; exact h2 _ _ B h' (fun _ u' h' => by obtain ⟨at_, kc, kn, a1, a2, a3, a4, a5, a6, a7, a8, a9, a10, a11, a12, a13, a14, a15, a16, a17, a18, a19, a20, a21, a22, a23, a24⟩ := u'; exact hp _ h'))⟩
theorem tm_by100 {A : tm_T} (hF : tm_F A) (z : Int32) : ∃ A', tm_F A' ∧ ∀ (post : St1 → Prop) (at_ kc kn a1 a2 a3 a4 a5 a6 a7 a8 a9 a10 a11 a12 a13 a14 a15 a16 a17 a18 a19 a20 a21 a22 a23 a24) (B : tm_T), tm_E (at_, kc, kn, a1, a2, a3, a4, a5, a6, a7, a8, a9, a10, a11, a12, a13, a14, a15, a16, a17, a18, a19, a20, a21, a22, a23, a24) A B → (∀ u', tm_E u' A' B → post u') → wL_bytes_100 post z at_ kc kn a1 a2 a3 a4 a5 a6 a7 a8 a9 a10 a11 a12 a13 a14 a15 a16 a17 a18 a19 a20 a21 a22 a23 a24 := by
  obtain ⟨A2, f2, h2⟩ := tm_feedAny z hF
  exact ⟨A2, f2, fun post at_ kc kn a1 a2 a3 a4 a5 a6 a7 a8 a9 a10 a11 a12 a13 a14 a15 a16 a17 a18 a19 a20 a21 a22 a23 a24 B h hp => by unfold wL_bytes_100; exact h2 _ _ B h (fun _ u' h' => by obtain ⟨at_, kc, kn, a1, a2, a3, a4, a5, a6, a7, a8, a9, a10, a11, a12, a13, a14, a15, a16, a17, a18, a19, a20, a21, a22, a23, a24⟩ := u'; exact hp _ h')⟩
theorem tm_byTwo {A : tm_T} (hF : tm_F A) (y z : Int32) : ∃ A', tm_F A' ∧ ∀ (post : St1 → Prop) (at_ kc kn a1 a2 a3 a4 a5 a6 a7 a8 a9 a10 a11 a12 a13 a14 a15 a16 a17 a18 a19 a20 a21 a22 a23 a24) (B : tm_T), tm_E (at_, kc, kn, a1, a2, a3, a4, a5, a6, a7, a8, a9, a10, a11, a12, a13, a14, a15, a16, a17, a18, a19, a20, a21, a22, a23, a24) A B → (∀ u', tm_E u' A' B → post u') → wpX_feed (fun _ u => match u with | (at_, kc, kn, a1, a2, a3, a4, a5, a6, a7, a8, a9, a10, a11, a12, a13, a14, a15, a16, a17, a18, a19, a20, a21, a22, a23, a24) => wpX_feed (fun _ u => match u with | (at_, kc, kn, a1, a2, a3, a4, a5, a6, a7, a8, a9, a10, a11, a12, a13, a14, a15, a16, a17, a18, a19, a20, a21, a22, a23, a24) => post (at_, kc, kn, a1, a2, a3, a4, a5, a6, a7, a8, a9, a10, a11, a12, a13, a14, a15, a16, a17, a18, a19, a20, a21, a22, a23, a24)) (at_, kc, kn, a1, a2, a3, a4, a5, a6, a7, a8, a9, a10, a11, a12, a13, a14, a15, a16, a17, a18, a19, a20, a21, a22, a23, a24) z) (at_, kc, kn, a1, a2, a3, a4, a5, a6, a7, a8, a9, a10, a11, a12, a13, a14, a15, a16, a17, a18, a19, a20, a21, a22, a23, a24) y := by
  obtain ⟨A1, f1, h1⟩ := tm_feedAny y hF
  obtain ⟨A2, f2, h2⟩ := tm_feedAny z f1
  exact ⟨A2, f2, fun post at_ kc kn a1 a2 a3 a4 a5 a6 a7 a8 a9 a10 a11 a12 a13 a14 a15 a16 a17 a18 a19 a20 a21 a22 a23 a24 B h hp => h1 _ _ B h (fun _ u' h' => by obtain ⟨at_, kc, kn, a1, a2, a3, a4, a5, a6, a7, a8, a9, a10, a11, a12, a13, a14, a15, a16, a17, a18, a19, a20, a21, a22, a23, a24⟩ := u'; exact h2 _ _ B h' (fun _ u' h' => by obtain ⟨at_, kc, kn, a1, a2, a3, a4, a5, a6, a7, a8, a9, a10, a11, a12, a13, a14, a15, a16, a17, a18, a19, a20, a21, a22, a23, a24⟩ := u'; exact hp _ h'))⟩
theorem tm_bytes {A : tm_T} (hF : tm_F A) (p1 : Int32) : ∃ A', tm_F A' ∧ ∀ (post : St1 → Prop) (u : St1) (B : tm_T), tm_E u A B → (∀ u', tm_E u' A' B → post u') → wpL_bytes post u p1 := by
  by_cases c1 : 5 ≤ p1 &&& 15
  · by_cases c2 : 6 ≤ p1 &&& 15
    · by_cases c3 : 8 ≤ p1 &&& 15
      · by_cases c4 : p1 &&& 15 = 8
        · obtain ⟨A1, f1, K⟩ := tm_by223 hF p1 (p1 &&& 15) ((p1 >>> ((4 : Int32) &&& 31)) &&& 7) ((p1 >>> ((7 : Int32) &&& 31)) &&& 7) 63 16384 11675
          exact ⟨A1, f1, fun post u B h hp => by obtain ⟨at_, kc, kn, a1, a2, a3, a4, a5, a6, a7, a8, a9, a10, a11, a12, a13, a14, a15, a16, a17, a18, a19, a20, a21, a22, a23, a24⟩ := u; exact nm_e (nm_e (nm_e (br_t c1 (br_t c2 (br_t c3 (br_t c4 (K _ at_ kc kn a1 a2 a3 a4 a5 a6 a7 a8 a9 a10 a11 a12 a13 a14 a15 a16 a17 a18 a19 a20 a21 a22 a23 a24 B h hp)))))))⟩
        · obtain ⟨A1, f1, K⟩ := tm_by223 hF p1 (p1 &&& 15) ((p1 >>> ((4 : Int32) &&& 31)) &&& 7) ((p1 >>> ((7 : Int32) &&& 31)) &&& 7) (48 + ((p1 >>> ((4 : Int32) &&& 31)) &&& 7)) 16384 11675
          exact ⟨A1, f1, fun post u B h hp => by obtain ⟨at_, kc, kn, a1, a2, a3, a4, a5, a6, a7, a8, a9, a10, a11, a12, a13, a14, a15, a16, a17, a18, a19, a20, a21, a22, a23, a24⟩ := u; exact nm_e (nm_e (nm_e (br_t c1 (br_t c2 (br_t c3 (br_f c4 (K _ at_ kc kn a1 a2 a3 a4 a5 a6 a7 a8 a9 a10 a11 a12 a13 a14 a15 a16 a17 a18 a19 a20 a21 a22 a23 a24 B h hp)))))))⟩
      · by_cases c4 : 2 ≤ (p1 >>> ((4 : Int32) &&& 31)) &&& 7
        · by_cases c5 : 3 ≤ (p1 >>> ((4 : Int32) &&& 31)) &&& 7
          · by_cases c6 : 4 ≤ (p1 >>> ((4 : Int32) &&& 31)) &&& 7
            · by_cases c7 : 5 ≤ (p1 >>> ((4 : Int32) &&& 31)) &&& 7
              · by_cases c8 : 6 ≤ (p1 >>> ((4 : Int32) &&& 31)) &&& 7
                · by_cases c9 : 7 ≤ (p1 >>> ((4 : Int32) &&& 31)) &&& 7
                  · obtain ⟨A1, f1, K⟩ := tm_by182 hF 99
                    exact ⟨A1, f1, fun post u B h hp => by obtain ⟨at_, kc, kn, a1, a2, a3, a4, a5, a6, a7, a8, a9, a10, a11, a12, a13, a14, a15, a16, a17, a18, a19, a20, a21, a22, a23, a24⟩ := u; exact nm_e (nm_e (nm_e (br_t c1 (br_t c2 (br_f c3 (br_t c4 (br_t c5 (br_t c6 (br_t c7 (br_t c8 (br_t c9 (K _ at_ kc kn a1 a2 a3 a4 a5 a6 a7 a8 a9 a10 a11 a12 a13 a14 a15 a16 a17 a18 a19 a20 a21 a22 a23 a24 B h hp))))))))))))⟩
                  · obtain ⟨A1, f1, K⟩ := tm_by182 hF 77
                    exact ⟨A1, f1, fun post u B h hp => by obtain ⟨at_, kc, kn, a1, a2, a3, a4, a5, a6, a7, a8, a9, a10, a11, a12, a13, a14, a15, a16, a17, a18, a19, a20, a21, a22, a23, a24⟩ := u; exact nm_e (nm_e (nm_e (br_t c1 (br_t c2 (br_f c3 (br_t c4 (br_t c5 (br_t c6 (br_t c7 (br_t c8 (br_f c9 (K _ at_ kc kn a1 a2 a3 a4 a5 a6 a7 a8 a9 a10 a11 a12 a13 a14 a15 a16 a17 a18 a19 a20 a21 a22 a23 a24 B h hp))))))))))))⟩
                · obtain ⟨A1, f1, K⟩ := tm_by182 hF 69
                  exact ⟨A1, f1, fun post u B h hp => by obtain ⟨at_, kc, kn, a1, a2, a3, a4, a5, a6, a7, a8, a9, a10, a11, a12, a13, a14, a15, a16, a17, a18, a19, a20, a21, a22, a23, a24⟩ := u; exact nm_e (nm_e (nm_e (br_t c1 (br_t c2 (br_f c3 (br_t c4 (br_t c5 (br_t c6 (br_t c7 (br_f c8 (K _ at_ kc kn a1 a2 a3 a4 a5 a6 a7 a8 a9 a10 a11 a12 a13 a14 a15 a16 a17 a18 a19 a20 a21 a22 a23 a24 B h hp)))))))))))⟩
              · obtain ⟨A1, f1, K⟩ := tm_by182 hF 68
                exact ⟨A1, f1, fun post u B h hp => by obtain ⟨at_, kc, kn, a1, a2, a3, a4, a5, a6, a7, a8, a9, a10, a11, a12, a13, a14, a15, a16, a17, a18, a19, a20, a21, a22, a23, a24⟩ := u; exact nm_e (nm_e (nm_e (br_t c1 (br_t c2 (br_f c3 (br_t c4 (br_t c5 (br_t c6 (br_f c7 (K _ at_ kc kn a1 a2 a3 a4 a5 a6 a7 a8 a9 a10 a11 a12 a13 a14 a15 a16 a17 a18 a19 a20 a21 a22 a23 a24 B h hp))))))))))⟩
            · obtain ⟨A1, f1, K⟩ := tm_by182 hF 56
              exact ⟨A1, f1, fun post u B h hp => by obtain ⟨at_, kc, kn, a1, a2, a3, a4, a5, a6, a7, a8, a9, a10, a11, a12, a13, a14, a15, a16, a17, a18, a19, a20, a21, a22, a23, a24⟩ := u; exact nm_e (nm_e (nm_e (br_t c1 (br_t c2 (br_f c3 (br_t c4 (br_t c5 (br_f c6 (K _ at_ kc kn a1 a2 a3 a4 a5 a6 a7 a8 a9 a10 a11 a12 a13 a14 a15 a16 a17 a18 a19 a20 a21 a22 a23 a24 B h hp)))))))))⟩
          · obtain ⟨A1, f1, K⟩ := tm_by182 hF 55
            exact ⟨A1, f1, fun post u B h hp => by obtain ⟨at_, kc, kn, a1, a2, a3, a4, a5, a6, a7, a8, a9, a10, a11, a12, a13, a14, a15, a16, a17, a18, a19, a20, a21, a22, a23, a24⟩ := u; exact nm_e (nm_e (nm_e (br_t c1 (br_t c2 (br_f c3 (br_t c4 (br_f c5 (K _ at_ kc kn a1 a2 a3 a4 a5 a6 a7 a8 a9 a10 a11 a12 a13 a14 a15 a16 a17 a18 a19 a20 a21 a22 a23 a24 B h hp))))))))⟩
        · obtain ⟨A1, f1, K⟩ := tm_by182 hF 77
          exact ⟨A1, f1, fun post u B h hp => by obtain ⟨at_, kc, kn, a1, a2, a3, a4, a5, a6, a7, a8, a9, a10, a11, a12, a13, a14, a15, a16, a17, a18, a19, a20, a21, a22, a23, a24⟩ := u; exact nm_e (nm_e (nm_e (br_t c1 (br_t c2 (br_f c3 (br_f c4 (K _ at_ kc kn a1 a2 a3 a4 a5 a6 a7 a8 a9 a10 a11 a12 a13 a14 a15 a16 a17 a18 a19 a20 a21 a22 a23 a24 B h hp)))))))⟩
    · by_cases c3 : 2 ≤ (p1 >>> ((4 : Int32) &&& 31)) &&& 7
      · by_cases c4 : 3 ≤ (p1 >>> ((4 : Int32) &&& 31)) &&& 7
        · by_cases c5 : 4 ≤ (p1 >>> ((4 : Int32) &&& 31)) &&& 7
          · by_cases c6 : 5 ≤ (p1 >>> ((4 : Int32) &&& 31)) &&& 7
            · obtain ⟨A1, f1, K⟩ := tm_by100 hF 10
              exact ⟨A1, f1, fun post u B h hp => by obtain ⟨at_, kc, kn, a1, a2, a3, a4, a5, a6, a7, a8, a9, a10, a11, a12, a13, a14, a15, a16, a17, a18, a19, a20, a21, a22, a23, a24⟩ := u; exact nm_e (nm_e (nm_e (br_t c1 (br_f c2 (br_t c3 (br_t c4 (br_t c5 (br_t c6 (K _ at_ kc kn a1 a2 a3 a4 a5 a6 a7 a8 a9 a10 a11 a12 a13 a14 a15 a16 a17 a18 a19 a20 a21 a22 a23 a24 B h hp)))))))))⟩
            · obtain ⟨A1, f1, K⟩ := tm_by100 hF 13
              exact ⟨A1, f1, fun post u B h hp => by obtain ⟨at_, kc, kn, a1, a2, a3, a4, a5, a6, a7, a8, a9, a10, a11, a12, a13, a14, a15, a16, a17, a18, a19, a20, a21, a22, a23, a24⟩ := u; exact nm_e (nm_e (nm_e (br_t c1 (br_f c2 (br_t c3 (br_t c4 (br_t c5 (br_f c6 (K _ at_ kc kn a1 a2 a3 a4 a5 a6 a7 a8 a9 a10 a11 a12 a13 a14 a15 a16 a17 a18 a19 a20 a21 a22 a23 a24 B h hp)))))))))⟩
          · obtain ⟨A1, f1, K⟩ := tm_by100 hF 9
            exact ⟨A1, f1, fun post u B h hp => by obtain ⟨at_, kc, kn, a1, a2, a3, a4, a5, a6, a7, a8, a9, a10, a11, a12, a13, a14, a15, a16, a17, a18, a19, a20, a21, a22, a23, a24⟩ := u; exact nm_e (nm_e (nm_e (br_t c1 (br_f c2 (br_t c3 (br_t c4 (br_f c5 (K _ at_ kc kn a1 a2 a3 a4 a5 a6 a7 a8 a9 a10 a11 a12 a13 a14 a15 a16 a17 a18 a19 a20 a21 a22 a23 a24 B h hp))))))))⟩
        · obtain ⟨A1, f1, K⟩ := tm_by100 hF 8
          exact ⟨A1, f1, fun post u B h hp => by obtain ⟨at_, kc, kn, a1, a2, a3, a4, a5, a6, a7, a8, a9, a10, a11, a12, a13, a14, a15, a16, a17, a18, a19, a20, a21, a22, a23, a24⟩ := u; exact nm_e (nm_e (nm_e (br_t c1 (br_f c2 (br_t c3 (br_f c4 (K _ at_ kc kn a1 a2 a3 a4 a5 a6 a7 a8 a9 a10 a11 a12 a13 a14 a15 a16 a17 a18 a19 a20 a21 a22 a23 a24 B h hp)))))))⟩
      · obtain ⟨A1, f1, K⟩ := tm_by100 hF 10
        exact ⟨A1, f1, fun post u B h hp => by obtain ⟨at_, kc, kn, a1, a2, a3, a4, a5, a6, a7, a8, a9, a10, a11, a12, a13, a14, a15, a16, a17, a18, a19, a20, a21, a22, a23, a24⟩ := u; exact nm_e (nm_e (nm_e (br_t c1 (br_f c2 (br_f c3 (K _ at_ kc kn a1 a2 a3 a4 a5 a6 a7 a8 a9 a10 a11 a12 a13 a14 a15 a16 a17 a18 a19 a20 a21 a22 a23 a24 B h hp))))))⟩
  · obtain ⟨A1, f1, K⟩ := tm_byTwo hF (33 + ((p1 >>> ((4 : Int32) &&& 31)) &&& 63)) (65 + ((p1 >>> ((4 : Int32) &&& 31)) &&& 7))
    exact ⟨A1, f1, fun post u B h hp => by obtain ⟨at_, kc, kn, a1, a2, a3, a4, a5, a6, a7, a8, a9, a10, a11, a12, a13, a14, a15, a16, a17, a18, a19, a20, a21, a22, a23, a24⟩ := u; exact nm_e (nm_e (nm_e (br_f c1 (K _ at_ kc kn a1 a2 a3 a4 a5 a6 a7 a8 a9 a10 a11 a12 a13 a14 a15 a16 a17 a18 a19 a20 a21 a22 a23 a24 B h hp))))⟩
end
section
/-! what is fed aside: the picture is as before -/
theorem tm_n0ls {A X : tm_T} (hN : tm_N A) (h0 : ∀ i, X 20 i = A 20 i) (ho : ∀ f i, f ≠ 20 → f ≠ 21 → f ≠ 22 → f ≠ 23 → f ≠ 27 → X f i = A f i) : tm_n0 X = A :=
  tm_ext5 h0 (fun i => (hN i).1.symm) (fun i => (hN i).2.1.symm) (fun i => (hN i).2.2.1.symm) (fun i => (hN i).2.2.2.symm) (fun f i z0 z1 z2 z3 z7 => (tm_n0_o z1 z2 z3 z7).trans (ho f i z0 z1 z2 z3 z7))
theorem tm_ls20 {A : tm_T} {k : Nat} {num : Nat → Nat} (h20 : A 20 0 = 0) : ∀ i, tm_ls A 0 k num 20 i = A 20 i := by
  intro i
  by_cases z : i = 0
  · rw [z, h20]
    rfl
  · unfold tm_ls
    rw [if_neg (fun q => z q.2)]
    rfl
theorem tm_n0ls' {A : tm_T} {k : Nat} {num : Nat → Nat} (hN : tm_N A) (h20 : A 20 0 = 0) : tm_n0 (tm_ls A 0 k num) = A :=
  tm_n0ls hN (tm_ls20 h20) (fun _ _ z0 _ z2 z3 z7 => tm_ls_o z0 z2 z3 z7)
theorem tm_rdN {t : Nat} {A : tm_T} {b : Nat} (hN : tm_N A) (h20 : A 20 0 = 0) (hb : b < 8 ∨ b = 127) : tm_rd t A b = A := by
  have e : tm_me (A 20 0) b = 0 := by
    unfold tm_me
    rw [if_neg (by omega), if_pos h20]
    rcases hb with y | y
    · rw [if_pos (by omega), if_pos y]
    · rw [if_neg (by omega), if_pos (by omega)]
  unfold tm_rd
  rw [e]
  show tm_no (tm_up A 20 0 0) = A
  rw [tm_up_same h20]
  unfold tm_no
  rw [if_neg (by omega)]
  exact tm_n0_same hN
theorem tm_rdS {t : Nat} {A : tm_T} {b : Nat} (hN : tm_N A) (h20 : A 20 0 = 0) (hb : 48 ≤ b) (hb2 : b ≤ 51) : tm_rd t (tm_up A 20 0 1) b = A := by
  have e : tm_me (tm_up A 20 0 1 20 0) b = 5 := by
    show tm_me 1 b = 5
    unfold tm_me
    rw [if_neg (by omega), if_neg (by decide), if_pos rfl, if_neg (by omega)]
  unfold tm_rd
  rw [e]
  show tm_no (tm_ss t (tm_up (tm_up A 20 0 1) 20 0 0) b) = A
  rw [tm_up_up, tm_up_same h20]
  unfold tm_ss
  rw [if_neg (by omega), if_neg (show ¬ tm_ks b by unfold tm_ks; omega), tm_up_same rfl]
  unfold tm_ss2
  rw [if_neg (by omega), if_neg (by omega), if_neg (by omega), if_neg (by omega), if_neg (by omega)]
  unfold tm_no
  rw [if_neg (by omega)]
  exact tm_n0_same hN
theorem tm_rdL {t : Nat} {A : tm_T} {d : Nat} (hN : tm_N A) (hd : d < 10) : tm_rd t (tm_rd t (tm_rd t A 27) 91) (48 + d) = tm_ls A 3 1 (fun i => if i = 1 - 1 then 10 * 0 + (48 + d - 48) else 0) := by
  rw [tm_rd27 hN, tm_rd91 hN, tm_rdD (by decide) (by decide) (by omega) (by omega) (show 10 * 0 + (48 + d - 48) ≤ 99 by omega)]
theorem tm_rdU {t : Nat} {A : tm_T} {k : Nat} {num : Nat → Nat} (hN : tm_N A) (h20 : A 20 0 = 0) : tm_rd t (tm_ls A 3 k num) 122 = A := by
  rw [tm_rdZ (by decide) (by decide) (by decide)]
  have e1 : tm_lb t (tm_ls A 0 k num) 122 = tm_ls A 0 k num := by
    unfold tm_lb
    rw [if_pos (show tm_ls A 0 k num 21 0 = 0 from (hN 0).1), if_neg (by decide), if_neg (by decide), if_neg (by decide), if_neg (by decide)]
  rw [e1]
  exact tm_n0ls' hN h20
theorem tm_rdE {t : Nat} {A : tm_T} {k : Nat} {num : Nat → Nat} (hN : tm_N A) (h20 : A 20 0 = 0) : tm_rd t (tm_ls A 3 k num) 30 = A := by
  show tm_n0 (tm_up (tm_ls A 3 k num) 20 0 0) = A
  rw [tm_ls_s]
  exact tm_n0ls' hN h20
theorem tm_rdQ {t : Nat} {A : tm_T} {b : Nat} (hN : tm_N A) (h20 : A 20 0 = 0) (hb : b = 65 ∨ b = 72) : tm_rd t (tm_rd t (tm_rd t (tm_rd t A 27) 91) 63) b = A := by
  rw [tm_rd27 hN, tm_rd91 hN]
  have e1 : tm_rd t (tm_ls A 2 1 (fun _ => 0)) 63 = tm_up (tm_ls A 3 1 (fun _ => 0)) 21 0 1 := by
    show tm_up (tm_up (tm_ls A 2 1 (fun _ => 0)) 20 0 3) 21 0 1 = _
    rw [tm_ls_s]
  rw [e1]
  have e2 : tm_me (tm_up (tm_ls A 3 1 (fun _ => 0)) 21 0 1 20 0) b = 9 := tm_me9 (s := 3) (by decide) (by omega) (by omega)
  unfold tm_rd
  rw [e2]
  show tm_no (tm_lb t (tm_up (tm_up (tm_ls A 3 1 (fun _ => 0)) 21 0 1) 20 0 0) b) = A
  have e3 : tm_lb t (tm_up (tm_up (tm_ls A 3 1 (fun _ => 0)) 21 0 1) 20 0 0) b = tm_up (tm_up (tm_ls A 3 1 (fun _ => 0)) 21 0 1) 20 0 0 := by
    unfold tm_lb
    rw [if_neg (show ¬ tm_up (tm_up (tm_ls A 3 1 (fun _ => 0)) 21 0 1) 20 0 0 21 0 = 0 from (show ¬ (1 : Nat) = 0 by decide)), if_neg (by omega), if_neg (by omega)]
  rw [e3]
  show tm_n0 (tm_up (tm_up (tm_ls A 3 1 (fun _ => 0)) 21 0 1) 20 0 0) = A
  refine tm_n0ls hN (fun i => ?_) (fun f i z0 z1 z2 z3 z7 => ?_)
  · by_cases z : i = 0
    · rw [z, h20]
      rfl
    · rw [tm_upI _ z, tm_upI _ z]
      unfold tm_ls
      rw [if_neg (fun q => z q.2)]
      rfl
  · rw [tm_upF _ z0, tm_upF _ z1, tm_ls_o z0 z2 z3 z7]
theorem tm_sequence {post : Int32 → Prop} {u : St1} {A B : tm_T} (h : tm_E u A B) (hA : tm_B A) (hp : post (nI (if A 20 0 ≤ 2 then A 20 0 else 2))) : wpX_sequence post u := by
  obtain ⟨at_, kc, kn, a1, a2, a3, a4, a5, a6, a7, a8, a9, a10, a11, a12, a13, a14, a15, a16, a17, a18, a19, a20, a21, a22, a23, a24⟩ := u
  have h20 := tm_b20 hA 0
  have e : a20 0 = nI (A 20 0) := tm_s20 h.1
  refine pk_le (A 20 0) 2 (fun z => ?_) (fun z => ?_) e rfl
  · rw [if_pos z] at hp
    exact (congrArg post e).mpr hp
  · rw [if_neg (by omega)] at hp
    exact hp
theorem tm_neg {j : Nat} (hj : j < 1024) : (-1 : Int32) - nI j < 0 := by
  have key : ∀ j, j < 1024 → (-1 : Int32) - nI j < 0 := by decide +kernel
  exact key j hj
theorem tm_as187 {post : Int32 → St1 → Prop} {x2 x4 : Int32} {at_ kc kn a1 a2 a3 a4 a5 a6 a7 a8 a9 a10 a11 a12 a13 a14 a15 a16 a17 a18 a19 a20 a21 a22 a23 a24} (hp : post 1 (at_, kc, kn, a1, a2, a3, a4, a5, a6, a7, a8, a9, a10, a11, a12, a13, a14, a15, a16, a17, a18, a19, a20, a21, a22, a23, a24)) : wL_aside_187 post x2 1 x4 x4 at_ kc kn a1 a2 a3 a4 a5 a6 a7 a8 a9 a10 a11 a12 a13 a14 a15 a16 a17 a18 a19 a20 a21 a22 a23 a24 := by
  obtain ⟨j, hj, e⟩ := pk_andE x2 (m := 1023) 10 (by decide)
  have e1 : ¬ (128 + (x2 &&& 1023)) ≤ 127 := by
    rw [e, show (128 : Int32) = nI 128 from rfl, nI_add]
    exact nI_ge (a := 127) (by omega) (by omega)
  have e2 : ((-1) - (x2 &&& 1023)) < 0 := by
    rw [e]
    exact tm_neg hj
  have e3 : ¬ (2097152 + (x2 &&& 1023)) ≤ 2097151 := by
    rw [e, show (2097152 : Int32) = nI 2097152 from rfl, nI_add]
    exact nI_ge (a := 2097151) (by omega) (by omega)
  unfold wL_aside_187
  refine tm_feed0 (Or.inr e1) ?_
  refine tm_feed0 (Or.inl e2) ?_
  refine tm_feed30 (Or.inr e3) ?_
  refine tm_feed30 (Or.inl e2) ?_
  exact br_f (by decide) (br_t rfl (br_t rfl (br_t rfl (br_t rfl (br_t rfl hp)))))
theorem tm_as166 {post : Int32 → St1 → Prop} {x2 : Int32} {A B : tm_T} {at_ kc kn a1 a2 a3 a4 a5 a6 a7 a8 a9 a10 a11 a12 a13 a14 a15 a16 a17 a18 a19 a20 a21 a22 a23 a24} (h : tm_E (at_, kc, kn, a1, a2, a3, a4, a5, a6, a7, a8, a9, a10, a11, a12, a13, a14, a15, a16, a17, a18, a19, a20, a21, a22, a23, a24) A B) (hA : tm_B A) (hQ : tm_Q B) (hp : ∀ u' B', tm_E u' A B' → tm_Q B' → post 1 u') : wL_aside_166 post x2 1 at_ kc kn a1 a2 a3 a4 a5 a6 a7 a8 a9 a10 a11 a12 a13 a14 a15 a16 a17 a18 a19 a20 a21 a22 a23 a24 := by
  unfold wL_aside_166
  refine tm_stale h hA hQ.1.1.1 ?_
  refine br_c (fun _ => tm_refresh h hA hQ ?_) (fun _ => tm_as187 (hp _ B h hQ))
  intro u1 B1 h1 hQ1 _
  obtain ⟨at_, kc, kn, a1, a2, a3, a4, a5, a6, a7, a8, a9, a10, a11, a12, a13, a14, a15, a16, a17, a18, a19, a20, a21, a22, a23, a24⟩ := u1
  exact tm_as187 (hp _ B1 h1 hQ1)
theorem tm_as118 {post : Int32 → St1 → Prop} {x2 : Int32} {b : Nat} {A B : tm_T} {at_ kc kn a1 a2 a3 a4 a5 a6 a7 a8 a9 a10 a11 a12 a13 a14 a15 a16 a17 a18 a19 a20 a21 a22 a23 a24} (hF : tm_F A) (h20 : A 20 0 = 0) (hQ : tm_Q B) (hb : b = 65 ∨ b = 72) (h : tm_E (at_, kc, kn, a1, a2, a3, a4, a5, a6, a7, a8, a9, a10, a11, a12, a13, a14, a15, a16, a17, a18, a19, a20, a21, a22, a23, a24) (tm_rd 0 (tm_rd 0 (tm_rd 0 A 27) 91) 63) B) (hp : ∀ u' B', tm_E u' A B' → tm_Q B' → post 1 u') : wL_aside_118 post x2 1 1 1 1 1 (nI b) at_ kc kn a1 a2 a3 a4 a5 a6 a7 a8 a9 a10 a11 a12 a13 a14 a15 a16 a17 a18 a19 a20 a21 a22 a23 a24 := by
  have hN : tm_N A := hF.2 (by omega)
  unfold wL_aside_118
  refine tm_feedN h (tm_J_rd (tm_J_rd (tm_J_rd hF.1))) (by omega) rfl ?_
  intro u1 h1
  obtain ⟨at_, kc, kn, a1, a2, a3, a4, a5, a6, a7, a8, a9, a10, a11, a12, a13, a14, a15, a16, a17, a18, a19, a20, a21, a22, a23, a24⟩ := u1
  rw [tm_rdQ hN h20 hb] at h1
  refine br_f (by decide) (br_f (by decide) (br_f (by decide) (br_f (by decide) (br_f (by decide) (br_f (by decide) ?_)))))
  refine tm_sequence h1 hF.1.1.1 ?_
  rw [h20]
  refine br_t rfl ?_
  unfold wL_aside_165
  exact (tm_as166 h1 hF.1.1.1 hQ hp)
theorem tm_as63 {post : Int32 → St1 → Prop} {x1 x2 : Int32} {b : Nat} {num : Nat → Nat} {A B : tm_T} {at_ kc kn a1 a2 a3 a4 a5 a6 a7 a8 a9 a10 a11 a12 a13 a14 a15 a16 a17 a18 a19 a20 a21 a22 a23 a24} (hF : tm_F A) (h20 : A 20 0 = 0) (hQ : tm_Q B) (hb : b = 122 ∨ b = 30) (hnum : ∀ i, num i ≤ 99) (h : tm_E (at_, kc, kn, a1, a2, a3, a4, a5, a6, a7, a8, a9, a10, a11, a12, a13, a14, a15, a16, a17, a18, a19, a20, a21, a22, a23, a24) (tm_ls A 3 1 num) B) (hp : ∀ u' B', tm_E u' A B' → tm_Q B' → post 1 u') : wL_aside_63 post x1 x2 1 1 (nI b) at_ kc kn a1 a2 a3 a4 a5 a6 a7 a8 a9 a10 a11 a12 a13 a14 a15 a16 a17 a18 a19 a20 a21 a22 a23 a24 := by
  have hN : tm_N A := hF.2 (by omega)
  unfold wL_aside_63
  refine tm_feedN h (tm_J_ls hF.1.1 (by decide) (by decide) (by decide) hnum) (by omega) rfl ?_
  intro u1 h1
  obtain ⟨at_, kc, kn, a1, a2, a3, a4, a5, a6, a7, a8, a9, a10, a11, a12, a13, a14, a15, a16, a17, a18, a19, a20, a21, a22, a23, a24⟩ := u1
  have h1' : tm_E (at_, kc, kn, a1, a2, a3, a4, a5, a6, a7, a8, a9, a10, a11, a12, a13, a14, a15, a16, a17, a18, a19, a20, a21, a22, a23, a24) A B := by
    rcases hb with rfl | rfl
    · rw [tm_rdU hN h20] at h1
      exact h1
    · rw [tm_rdE hN h20] at h1
      exact h1
  obtain ⟨j, hj, e⟩ := pk_andE (x1 >>> ((7 : Int32) &&& 31)) (m := 3) 2 (by decide)
  have ex : (27 + (128 * (48 + ((x1 >>> ((7 : Int32) &&& 31)) &&& 3)))) + 2080768 = nI (27 + 128 * (48 + j) + 2080768) := by
    rw [e, show (48 : Int32) = nI 48 from rfl, show (128 : Int32) = nI 128 from rfl, show (27 : Int32) = nI 27 from rfl, show (2080768 : Int32) = nI 2080768 from rfl, nI_add, pk_mul, nI_add, nI_add]
  refine tm_feed3N h1' hF.1 (by omega) ex ?_
  intro u2 h2
  obtain ⟨at_, kc, kn, a1, a2, a3, a4, a5, a6, a7, a8, a9, a10, a11, a12, a13, a14, a15, a16, a17, a18, a19, a20, a21, a22, a23, a24⟩ := u2
  rw [show (27 + 128 * (48 + j) + 2080768) % 128 = 27 by omega, show (27 + 128 * (48 + j) + 2080768) / 128 % 128 = 48 + j by omega, show (27 + 128 * (48 + j) + 2080768) / 16384 = 127 by omega, tm_rd27 hN, tm_rdS hN h20 (by omega) (by omega), tm_rdN hN h20 (Or.inr rfl)] at h2
  refine tm_feed3N (n := 1043867) h2 hF.1 (by decide) rfl ?_
  intro u3 h3
  obtain ⟨at_, kc, kn, a1, a2, a3, a4, a5, a6, a7, a8, a9, a10, a11, a12, a13, a14, a15, a16, a17, a18, a19, a20, a21, a22, a23, a24⟩ := u3
  exact br_c (fun _ => tm_as118 (b := 65) hF h20 hQ (Or.inl rfl) h3 hp) (fun _ => tm_as118 (b := 72) hF h20 hQ (Or.inr rfl) h3 hp)
theorem tm_aside {post : Int32 → St1 → Prop} {u : St1} {x1 x2 : Int32} {A B : tm_T} (h : tm_E u A B) (hF : tm_F A) (hQ : tm_Q B) (hp : ∀ u' B', tm_E u' A B' → tm_Q B' → post 1 u') : wpL_aside post u x1 x2 := by
  obtain ⟨at_, kc, kn, a1, a2, a3, a4, a5, a6, a7, a8, a9, a10, a11, a12, a13, a14, a15, a16, a17, a18, a19, a20, a21, a22, a23, a24⟩ := u
  have hl : (if A 20 0 ≤ 2 then A 20 0 else 2) < 2 ^ 31 := by
    split <;> omega
  unfold wpL_aside
  refine tm_sequence h hF.1.1.1 ?_
  refine (pk_eq _ 0 (fun z => ?_) (fun z => ?_) rfl rfl hl)
  · have h20 : A 20 0 = 0 := by
      by_cases y : A 20 0 ≤ 2
      · rw [if_pos y] at z
        exact z
      · rw [if_neg y] at z
        omega
    have hN : tm_N A := hF.2 (by omega)
    obtain ⟨j, hj, e⟩ := pk_andE x1 (m := 7) 3 (by decide)
    obtain ⟨d, hd, ed⟩ := pk_andE (x1 >>> ((3 : Int32) &&& 31)) (m := 7) 3 (by decide)
    refine nm_r e ?_
    refine tm_feedN h hF.1 (by omega) rfl ?_
    intro u1 h1
    obtain ⟨at_, kc, kn, a1, a2, a3, a4, a5, a6, a7, a8, a9, a10, a11, a12, a13, a14, a15, a16, a17, a18, a19, a20, a21, a22, a23, a24⟩ := u1
    rw [tm_rdN hN h20 (Or.inl (by omega))] at h1
    have ex : 11675 + (16384 * (48 + ((x1 >>> ((3 : Int32) &&& 31)) &&& 7))) = nI (11675 + 16384 * (48 + d)) := by
      rw [ed, show (48 : Int32) = nI 48 from rfl, show (16384 : Int32) = nI 16384 from rfl, show (11675 : Int32) = nI 11675 from rfl, nI_add, pk_mul, nI_add]
    refine tm_feed3N h1 hF.1 (by omega) ex ?_
    intro u2 h2
    obtain ⟨at_, kc, kn, a1, a2, a3, a4, a5, a6, a7, a8, a9, a10, a11, a12, a13, a14, a15, a16, a17, a18, a19, a20, a21, a22, a23, a24⟩ := u2
    rw [show (11675 + 16384 * (48 + d)) % 128 = 27 by omega, show (11675 + 16384 * (48 + d)) / 128 % 128 = 91 by omega, show (11675 + 16384 * (48 + d)) / 16384 = 48 + d by omega, tm_rdL hN (by omega)] at h2
    have hnum : ∀ i, (fun i => if i = 1 - 1 then 10 * 0 + (48 + d - 48) else 0) i ≤ 99 := by
      intro i
      try dsimp only
      split <;> omega
    exact br_c (fun _ => tm_as63 (b := 122) hF h20 hQ (Or.inl rfl) hnum h2 hp) (fun _ => tm_as63 (b := 30) hF h20 hQ (Or.inr rfl) hnum h2 hp)
  · exact tm_as166 h hF.1.1.1 hQ hp
end
section
/-! both alike -/
theorem tm_isCell {post : Int32 → Prop} {r c : Nat} (hr : r < 2 ^ 31) (hc : c < 12) (hp : post (if r < 6 then 1 else 0)) : wpX_isCell post () (nI r) (nI c) := by
  refine br_f (nI_pos hr) (pk_le 6 r (fun z => ?_) (fun z => br_f (nI_pos (by omega)) (br_f (nI_ge (b := 12) hc (by decide)) ?_)) rfl rfl (by decide) hr)
  · rw [if_neg (by omega)] at hp
    exact hp
  · rw [if_pos z] at hp
    exact hp
def tm_vs (A : tm_T) (f r c : Nat) : Int32 := if r < 6 then nI (A f (tm_ln A r + c)) else -1
theorem tm_sign {post : Int32 → Prop} {u : St1} {r c : Nat} {A B : tm_T} (h : tm_E u A B) (hA : tm_B A) (hr : r < 8) (hc : c < 12) (hp : post (tm_vs A 1 r c)) : wpX_sign post u (nI r) (nI c) := by
  obtain ⟨at_, kc, kn, a1, a2, a3, a4, a5, a6, a7, a8, a9, a10, a11, a12, a13, a14, a15, a16, a17, a18, a19, a20, a21, a22, a23, a24⟩ := u
  have la := tm_ln_le (r := r) (tm_B_Sb hA)
  unfold wpX_sign
  refine tm_isCell (by omega) hc ?_
  unfold tm_vs at hp
  by_cases z : r < 6
  · rw [if_pos z] at hp
    rw [if_pos z]
    have ix := tm_ix3 0 (tm_ln A r) c
    have e : a1 (nI (0 * 144 + tm_ln A r) + nI c).toNatClampNeg = nI (A 1 (tm_ln A r + c)) := by
      rw [ix, nI_clamp (by omega)]
      exact tm_s1 h.1 _ (by omega)
    refine br_f (by decide) ?_
    refine tm_lineOf (t := 0) h.1 (by decide) (tm_B_Sb hA) z ?_
    exact (And.intro (pk_in _ _ (by omega) ix) ((congrArg post e).mpr hp))
  · rw [if_neg z] at hp
    rw [if_neg z]
    exact br_t rfl hp
theorem tm_style {post : Int32 → Prop} {u : St1} {r c : Nat} {A B : tm_T} (h : tm_E u A B) (hA : tm_B A) (hr : r < 8) (hc : c < 12) (hp : post (tm_vs A 2 r c)) : wpX_style post u (nI r) (nI c) := by
  obtain ⟨at_, kc, kn, a1, a2, a3, a4, a5, a6, a7, a8, a9, a10, a11, a12, a13, a14, a15, a16, a17, a18, a19, a20, a21, a22, a23, a24⟩ := u
  have la := tm_ln_le (r := r) (tm_B_Sb hA)
  unfold wpX_style
  refine tm_isCell (by omega) hc ?_
  unfold tm_vs at hp
  by_cases z : r < 6
  · rw [if_pos z] at hp
    rw [if_pos z]
    have ix := tm_ix3 0 (tm_ln A r) c
    have e : a2 (nI (0 * 144 + tm_ln A r) + nI c).toNatClampNeg = nI (A 2 (tm_ln A r + c)) := by
      rw [ix, nI_clamp (by omega)]
      exact tm_s2 h.1 _ (by omega)
    refine br_f (by decide) ?_
    refine tm_lineOf (t := 0) h.1 (by decide) (tm_B_Sb hA) z ?_
    exact (And.intro (pk_in _ _ (by omega) ix) ((congrArg post e).mpr hp))
  · rw [if_neg z] at hp
    rw [if_neg z]
    exact br_t rfl hp
def tm_vk (A : tm_T) (r c : Nat) : Int32 := if A 25 0 ≤ r then -1 else nI (A 24 ((A 26 0 + 7 - r) % 8 * 12 + c))
theorem tm_kept {post : Int32 → Prop} {u : St1} {r c : Nat} {A B : tm_T} (h : tm_E u A B) (hA : tm_B A) (hr : r < 8) (hc : c < 12) (hp : post (tm_vk A r c)) : wpX_kept post u (nI r) (nI c) := by
  obtain ⟨at_, kc, kn, a1, a2, a3, a4, a5, a6, a7, a8, a9, a10, a11, a12, a13, a14, a15, a16, a17, a18, a19, a20, a21, a22, a23, a24⟩ := u
  have h25 := tm_b25 hA 0
  have h26 := tm_b26 hA 0
  obtain ⟨k1, k2, k3⟩ := tm_sk h.1 rfl
  unfold tm_vk at hp
  refine br_f (nI_pos (by omega)) (pk_le (A 25 0) r (fun z => ?_) (fun z => br_f (nI_pos (by omega)) (br_t (nI_lt (b := 12) hc (by decide)) (And.intro (by decide) (?_)))) k1 rfl)
  · rw [if_pos z] at hp
    exact hp
  · rw [if_neg (by omega)] at hp
    have e0 : kn + 8 - 1 - nI r = nI (A 26 0 + 7 - r) := by
      rw [k2, show (8 : Int32) = nI 8 from rfl, nI_add, show A 26 0 + 8 = A 26 0 + 7 + 1 by omega, nI_pred, pk_sub (by omega)]
    have e1 : (kn + 8 - 1 - nI r) - (kn + 8 - 1 - nI r) / 8 * 8 = nI ((A 26 0 + 7 - r) % 8) := by
      rw [e0]
      exact pk_rem (d := 8) (by omega) (by decide) (by decide)
    have ix : nI ((A 26 0 + 7 - r) % 8) * 12 + nI c = nI ((A 26 0 + 7 - r) % 8 * 12 + c) := by
      rw [show (12 : Int32) = nI 12 from rfl, pk_mul, nI_add]
    have e2 : a24 (nI ((A 26 0 + 7 - r) % 8) * 12 + nI c).toNatClampNeg = nI (A 24 ((A 26 0 + 7 - r) % 8 * 12 + c)) := by
      rw [ix, nI_clamp (by omega)]
      exact k3 _ (by omega)
    exact nm_r e1 (And.intro (pk_in _ _ (by omega) ix) ((congrArg post e2).mpr hp))
theorem tm_al96 {post : Int32 → Prop} {A B B' : tm_T} {at_ kc kn a1 a2 a3 a4 a5 a6 a7 a8 a9 a10 a11 a12 a13 a14 a15 a16 a17 a18 a19 a20 a21 a22 a23 a24} {at_b kcb knb a1b a2b a3b a4b a5b a6b a7b a8b a9b a10b a11b a12b a13b a14b a15b a16b a17b a18b a19b a20b a21b a22b a23b a24b} (h : tm_E (at_, kc, kn, a1, a2, a3, a4, a5, a6, a7, a8, a9, a10, a11, a12, a13, a14, a15, a16, a17, a18, a19, a20, a21, a22, a23, a24) A B) (h' : tm_E (at_b, kcb, knb, a1b, a2b, a3b, a4b, a5b, a6b, a7b, a8b, a9b, a10b, a11b, a12b, a13b, a14b, a15b, a16b, a17b, a18b, a19b, a20b, a21b, a22b, a23b, a24b) A B') (hA : tm_B A) (hp : post 1) : ∀ n k : Nat, k + n = 96 → wL_alike_96 post at_ kc kn a1 a2 a3 a4 a5 a6 a7 a8 a9 a10 a11 a12 a13 a14 a15 a16 a17 a18 a19 a20 a21 a22 a23 a24 at_b kcb knb a1b a2b a3b a4b a5b a6b a7b a8b a9b a10b a11b a12b a13b a14b a15b a16b a17b a18b a19b a20b a21b a22b a23b a24b (n + 1) 1 (nI k) := by
  intro n
  induction n with
  | zero =>
    intro k hk
    exact pk_le 96 k (fun _ => (And.intro (rfl) (hp))) (fun z => absurd z (by omega))
  | succ n ih =>
    intro k hk
    have e1 : nI k / 12 = nI (k / 12) := pk_div (d := 12) (by omega) (by decide) (by decide)
    have e2 : nI k - nI k / 12 * 12 = nI (k % 12) := pk_rem (d := 12) (by omega) (by decide) (by decide)
    refine pk_le 96 k (fun z => absurd z (by omega)) (fun _ => (And.intro (by decide) (nm_r e1 (And.intro (by decide) (nm_r e2 (br_f (by decide) ?_))))))
    refine tm_sign h hA (by omega) (by omega) ?_
    refine tm_sign h' hA (by omega) (by omega) ?_
    refine br_t rfl ?_
    refine tm_style h hA (by omega) (by omega) ?_
    refine tm_style h' hA (by omega) (by omega) ?_
    refine br_t rfl ?_
    refine tm_kept h hA (by omega) (by omega) ?_
    refine tm_kept h' hA (by omega) (by omega) ?_
    exact br_t rfl (nm_r (nI_1 k) (ih (k + 1) (by omega)))
theorem tm_nzz : ∀ n, n < 2 → narrow .boolean (.int (nI n)) = .int (nI n) := by
  intro n hn
  rcases (show n = 0 ∨ n = 1 by omega) with rfl | rfl <;> rfl
def tm_vm (A : tm_T) : Int32 := ((if A 10 0 = 0 then 0 else 1) + (if A 11 0 = 0 then 0 else 2)) + (4 * nI (A 12 0))
theorem tm_modes {post : Int32 → Prop} {u : St1} {A B : tm_T} (h : tm_E u A B) (hA : tm_B A) (hp : post (tm_vm A)) : wpX_modes post u := by
  obtain ⟨at_, kc, kn, a1, a2, a3, a4, a5, a6, a7, a8, a9, a10, a11, a12, a13, a14, a15, a16, a17, a18, a19, a20, a21, a22, a23, a24⟩ := u
  have h10 := tm_b10 hA 0
  have h11 := tm_b11 hA 0
  have e12 : a12 0 = nI (A 12 0) := tm_s12 h.1
  unfold tm_vm at hp
  rw [← e12] at hp
  refine pk_eq (A 10 0) 0 (fun z => pk_eq (A 11 0) 0 (fun y => ?_) (fun y => ?_) (tm_s11 h.1) rfl) (fun z => pk_eq (A 11 0) 0 (fun y => ?_) (fun y => ?_) (tm_s11 h.1) rfl) (tm_s10 h.1) rfl
  · rw [if_pos z, if_pos y] at hp
    exact hp
  · rw [if_pos z, if_neg y] at hp
    exact hp
  · rw [if_neg z, if_pos y] at hp
    exact hp
  · rw [if_neg z, if_neg y] at hp
    exact hp
theorem tm_alike {post : Int32 → Prop} {A B B' : tm_T} {at_ kc kn a1 a2 a3 a4 a5 a6 a7 a8 a9 a10 a11 a12 a13 a14 a15 a16 a17 a18 a19 a20 a21 a22 a23 a24} {at_b kcb knb a1b a2b a3b a4b a5b a6b a7b a8b a9b a10b a11b a12b a13b a14b a15b a16b a17b a18b a19b a20b a21b a22b a23b a24b} (h : tm_E (at_, kc, kn, a1, a2, a3, a4, a5, a6, a7, a8, a9, a10, a11, a12, a13, a14, a15, a16, a17, a18, a19, a20, a21, a22, a23, a24) A B) (h' : tm_E (at_b, kcb, knb, a1b, a2b, a3b, a4b, a5b, a6b, a7b, a8b, a9b, a10b, a11b, a12b, a13b, a14b, a15b, a16b, a17b, a18b, a19b, a20b, a21b, a22b, a23b, a24b) A B') (hA : tm_B A) (hp : post 1) : wpL_alike post (at_, kc, kn, a1, a2, a3, a4, a5, a6, a7, a8, a9, a10, a11, a12, a13, a14, a15, a16, a17, a18, a19, a20, a21, a22, a23, a24, at_b, kcb, knb, a1b, a2b, a3b, a4b, a5b, a6b, a7b, a8b, a9b, a10b, a11b, a12b, a13b, a14b, a15b, a16b, a17b, a18b, a19b, a20b, a21b, a22b, a23b, a24b) := by
  have h6 := tm_b6 hA 0
  have n6 : narrow .boolean (.int (a6 0)) = .int (a6 0) := by
    rw [tm_s6 h.1]
    exact tm_nzz _ (by omega)
  have n6' : narrow .boolean (.int (a6b 0)) = .int (a6b 0) := by
    rw [tm_s6 h'.1]
    exact tm_nzz _ (by omega)
  have e8 : a8 0 + 10 * a9 0 = a8b 0 + 10 * a9b 0 := by
    rw [tm_s8 h.1, tm_s9 h.1, tm_s8 h'.1, tm_s9 h'.1]
  refine br_t ((tm_s4 h.1).trans (tm_s4 h'.1).symm) ?_
  refine br_t ((tm_s5 h.1).trans (tm_s5 h'.1).symm) ?_
  refine (And.intro (n6) (And.intro (n6') (br_t ((tm_s6 h.1).trans (tm_s6 h'.1).symm) ?_)))
  refine br_t ((tm_s7 h.1).trans (tm_s7 h'.1).symm) ?_
  refine br_t e8 ?_
  refine tm_modes h hA ?_
  refine tm_modes h' hA ?_
  refine br_t rfl ?_
  refine tm_sequence h hA ?_
  refine tm_sequence h' hA ?_
  refine br_t rfl ?_
  refine br_t ((tm_sk h.1 rfl).1.trans (tm_sk h'.1 rfl).1.symm) ?_
  exact ⟨97, tm_al96 h h' hA hp 96 0 (by decide)⟩
/-! the law -/
theorem tm_shown {post : Int32 → Prop} {u : St1} {r c : Nat} {A T : tm_T} (h : tm_E u A T) (hT : tm_B T) (hr : r < 6) (hc : c < 12) (ht : tm_rt A T r c) (hp : post (nI (A 1 (tm_ln A r + c)) + (128 * nI (A 2 (tm_ln A r + c))))) : wpX_shown post u (nI r) (nI c) := by
  obtain ⟨at_, kc, kn, a1, a2, a3, a4, a5, a6, a7, a8, a9, a10, a11, a12, a13, a14, a15, a16, a17, a18, a19, a20, a21, a22, a23, a24⟩ := u
  have la := tm_ln_le (r := r) (tm_B_Sb hT)
  unfold wpX_shown
  refine tm_isCell (by omega) hc ?_
  rw [if_pos hr]
  have ix := tm_ix3 1 (tm_ln T r) c
  have e1 : a1 (nI (1 * 144 + tm_ln T r) + nI c).toNatClampNeg = nI (A 1 (tm_ln A r + c)) := by
    rw [ix, nI_clamp (by omega), ht.1]
    exact tm_s1 h.2 _ (by omega)
  have e2 : a2 (nI (1 * 144 + tm_ln T r) + nI c).toNatClampNeg = nI (A 2 (tm_ln A r + c)) := by
    rw [ix, nI_clamp (by omega), ht.2]
    exact tm_s2 h.2 _ (by omega)
  refine br_f (by decide) ?_
  refine tm_lineOf (t := 1) h.2 (by decide) (tm_B_Sb hT) hr ?_
  refine (And.intro (pk_in _ _ (by omega) ix) (And.intro (pk_in _ _ (by omega) ix) (?_)))
  rw [e1, e2]
  exact hp
theorem tm_law140 {L k1 k2 : Nat} {xs : Nat → Int32} {A T T' : tm_T} {at_ kc kn a1 a2 a3 a4 a5 a6 a7 a8 a9 a10 a11 a12 a13 a14 a15 a16 a17 a18 a19 a20 a21 a22 a23 a24} {at_b kcb knb a1b a2b a3b a4b a5b a6b a7b a8b a9b a10b a11b a12b a13b a14b a15b a16b a17b a18b a19b a20b a21b a22b a23b a24b} (h : tm_E (at_, kc, kn, a1, a2, a3, a4, a5, a6, a7, a8, a9, a10, a11, a12, a13, a14, a15, a16, a17, a18, a19, a20, a21, a22, a23, a24) A T) (h' : tm_E (at_b, kcb, knb, a1b, a2b, a3b, a4b, a5b, a6b, a7b, a8b, a9b, a10b, a11b, a12b, a13b, a14b, a15b, a16b, a17b, a18b, a19b, a20b, a21b, a22b, a23b, a24b) A T') (hT : tm_B T) (hT' : tm_B T') (ht : ∀ r c, r < 6 → c < 12 → tm_rt A T r c) (ht' : ∀ r c, r < 6 → c < 12 → tm_rt A T' r c) : ∀ n k : Nat, k + n = 72 → wL_law_140 (fun r => r = 1) L xs k1 k2 at_ kc kn a1 a2 a3 a4 a5 a6 a7 a8 a9 a10 a11 a12 a13 a14 a15 a16 a17 a18 a19 a20 a21 a22 a23 a24 at_b kcb knb a1b a2b a3b a4b a5b a6b a7b a8b a9b a10b a11b a12b a13b a14b a15b a16b a17b a18b a19b a20b a21b a22b a23b a24b (n + 1) 1 (nI k) := by
  intro n
  induction n with
  | zero =>
    intro k hk
    exact pk_le 72 k (fun _ => rfl) (fun z => absurd z (by omega))
  | succ n ih =>
    intro k hk
    have e1 : nI k / 12 = nI (k / 12) := pk_div (d := 12) (by omega) (by decide) (by decide)
    have e2 : nI k - nI k / 12 * 12 = nI (k % 12) := pk_rem (d := 12) (by omega) (by decide) (by decide)
    refine pk_le 72 k (fun z => absurd z (by omega)) (fun _ => br_f (by decide) (And.intro (by decide) (And.intro (by decide) (?_))))
    rw [e2, e1]
    refine tm_shown h hT (by omega) (by omega) (ht _ _ (by omega) (by omega)) ?_
    refine (And.intro (by decide) (And.intro (by decide) (?_)))
    refine tm_shown h' hT' (by omega) (by omega) (ht' _ _ (by omega) (by omega)) ?_
    refine (br_t rfl (nm_r (nI_1 k) (ih (k + 1) (by omega))))
theorem tm_law75 {L k k1 k2 : Nat} {xs : Nat → Int32} {x : Int32} {n : Nat} {A B B' : tm_T} {at_ kc kn a1 a2 a3 a4 a5 a6 a7 a8 a9 a10 a11 a12 a13 a14 a15 a16 a17 a18 a19 a20 a21 a22 a23 a24} {at_b kcb knb a1b a2b a3b a4b a5b a6b a7b a8b a9b a10b a11b a12b a13b a14b a15b a16b a17b a18b a19b a20b a21b a22b a23b a24b} (h : tm_E (at_, kc, kn, a1, a2, a3, a4, a5, a6, a7, a8, a9, a10, a11, a12, a13, a14, a15, a16, a17, a18, a19, a20, a21, a22, a23, a24) A B) (h' : tm_E (at_b, kcb, knb, a1b, a2b, a3b, a4b, a5b, a6b, a7b, a8b, a9b, a10b, a11b, a12b, a13b, a14b, a15b, a16b, a17b, a18b, a19b, a20b, a21b, a22b, a23b, a24b) A B') (hF : tm_F A) (hQ' : tm_Q B') (hp : ∀ at_b kcb knb a1b a2b a3b a4b a5b a6b a7b a8b a9b a10b a11b a12b a13b a14b a15b a16b a17b a18b a19b a20b a21b a22b a23b a24b, ∀ C, tm_E (at_b, kcb, knb, a1b, a2b, a3b, a4b, a5b, a6b, a7b, a8b, a9b, a10b, a11b, a12b, a13b, a14b, a15b, a16b, a17b, a18b, a19b, a20b, a21b, a22b, a23b, a24b) A C → tm_Q C → wL_law_18 (fun r => r = 1) L xs k1 k2 n (nI (k + 1)) at_ kc kn a1 a2 a3 a4 a5 a6 a7 a8 a9 a10 a11 a12 a13 a14 a15 a16 a17 a18 a19 a20 a21 a22 a23 a24 at_b kcb knb a1b a2b a3b a4b a5b a6b a7b a8b a9b a10b a11b a12b a13b a14b a15b a16b a17b a18b a19b a20b a21b a22b a23b a24b) : wL_law_75 (fun r => r = 1) L xs (wL_law_18 (fun r => r = 1) L xs k1 k2 n) (nI k) x k1 k2 at_ kc kn a1 a2 a3 a4 a5 a6 a7 a8 a9 a10 a11 a12 a13 a14 a15 a16 a17 a18 a19 a20 a21 a22 a23 a24 at_b kcb knb a1b a2b a3b a4b a5b a6b a7b a8b a9b a10b a11b a12b a13b a14b a15b a16b a17b a18b a19b a20b a21b a22b a23b a24b := by
  unfold wL_law_75
  refine tm_aside h' hF hQ' ?_
  intro u1 C h1 hC
  obtain ⟨at_b, kcb, knb, a1b, a2b, a3b, a4b, a5b, a6b, a7b, a8b, a9b, a10b, a11b, a12b, a13b, a14b, a15b, a16b, a17b, a18b, a19b, a20b, a21b, a22b, a23b, a24b⟩ := u1
  refine br_f (by decide) ?_
  refine tm_alike h h1 hF.1.1.1 ?_
  exact (br_f (by decide) (nm_r (nI_1 k) (hp at_b kcb knb a1b a2b a3b a4b a5b a6b a7b a8b a9b a10b a11b a12b a13b a14b a15b a16b a17b a18b a19b a20b a21b a22b a23b a24b C h1 hC)))
theorem tm_law18 {L k1 k2 : Nat} {xs : Nat → Int32} (hL : L ≤ 260) : ∀ (n k : Nat) (A B B' : tm_T) (at_ kc kn a1 a2 a3 a4 a5 a6 a7 a8 a9 a10 a11 a12 a13 a14 a15 a16 a17 a18 a19 a20 a21 a22 a23 a24) (at_b kcb knb a1b a2b a3b a4b a5b a6b a7b a8b a9b a10b a11b a12b a13b a14b a15b a16b a17b a18b a19b a20b a21b a22b a23b a24b), k + n = L → tm_E (at_, kc, kn, a1, a2, a3, a4, a5, a6, a7, a8, a9, a10, a11, a12, a13, a14, a15, a16, a17, a18, a19, a20, a21, a22, a23, a24) A B → tm_E (at_b, kcb, knb, a1b, a2b, a3b, a4b, a5b, a6b, a7b, a8b, a9b, a10b, a11b, a12b, a13b, a14b, a15b, a16b, a17b, a18b, a19b, a20b, a21b, a22b, a23b, a24b) A B' → tm_F A → tm_Q B → tm_Q B' → wL_law_18 (fun r => r = 1) L xs k1 k2 (n + 1) (nI k) at_ kc kn a1 a2 a3 a4 a5 a6 a7 a8 a9 a10 a11 a12 a13 a14 a15 a16 a17 a18 a19 a20 a21 a22 a23 a24 at_b kcb knb a1b a2b a3b a4b a5b a6b a7b a8b a9b a10b a11b a12b a13b a14b a15b a16b a17b a18b a19b a20b a21b a22b a23b a24b := by
  intro n
  induction n with
  | zero =>
    intro k A B B' at_ kc kn a1 a2 a3 a4 a5 a6 a7 a8 a9 a10 a11 a12 a13 a14 a15 a16 a17 a18 a19 a20 a21 a22 a23 a24 at_b kcb knb a1b a2b a3b a4b a5b a6b a7b a8b a9b a10b a11b a12b a13b a14b a15b a16b a17b a18b a19b a20b a21b a22b a23b a24b hk h h' hF hQ hQ'
    refine pk_le L k (fun _ => ?_) (fun z => absurd z (by omega))
    refine tm_refresh h hF.1.1.1 hQ ?_
    intro u1 T h1 hT ht
    obtain ⟨at_, kc, kn, a1, a2, a3, a4, a5, a6, a7, a8, a9, a10, a11, a12, a13, a14, a15, a16, a17, a18, a19, a20, a21, a22, a23, a24⟩ := u1
    refine tm_refresh h' hF.1.1.1 hQ' ?_
    intro u2 T' h2 hT' ht'
    obtain ⟨at_b, kcb, knb, a1b, a2b, a3b, a4b, a5b, a6b, a7b, a8b, a9b, a10b, a11b, a12b, a13b, a14b, a15b, a16b, a17b, a18b, a19b, a20b, a21b, a22b, a23b, a24b⟩ := u2
    refine tm_stale h1 hF.1.1.1 hT.1.1.1 ?_
    rw [tm_sta_0 ht]
    refine br_t rfl ?_
    refine tm_stale h2 hF.1.1.1 hT'.1.1.1 ?_
    rw [tm_sta_0 ht']
    exact br_t rfl ⟨73, tm_law140 h1 h2 hT.1.1.1 hT'.1.1.1 ht ht' 72 0 (by decide)⟩
  | succ n ih =>
    intro k A B B' at_ kc kn a1 a2 a3 a4 a5 a6 a7 a8 a9 a10 a11 a12 a13 a14 a15 a16 a17 a18 a19 a20 a21 a22 a23 a24 at_b kcb knb a1b a2b a3b a4b a5b a6b a7b a8b a9b a10b a11b a12b a13b a14b a15b a16b a17b a18b a19b a20b a21b a22b a23b a24b hk h h' hF hQ hQ'
    refine pk_le L k (fun z => absurd z (by omega)) (fun _ => (And.intro (pk_in k L (by omega)) (nm_e ?_)))
    obtain ⟨A1, f1, K1⟩ := tm_bytes hF (xs (nI k).toNatClampNeg >>> ((2 : Int32) &&& 31))
    refine K1 _ _ B h ?_
    intro u1 h1
    obtain ⟨at_, kc, kn, a1, a2, a3, a4, a5, a6, a7, a8, a9, a10, a11, a12, a13, a14, a15, a16, a17, a18, a19, a20, a21, a22, a23, a24⟩ := u1
    refine K1 _ _ B' h' ?_
    intro u2 h2
    obtain ⟨at_b, kcb, knb, a1b, a2b, a3b, a4b, a5b, a6b, a7b, a8b, a9b, a10b, a11b, a12b, a13b, a14b, a15b, a16b, a17b, a18b, a19b, a20b, a21b, a22b, a23b, a24b⟩ := u2
    refine (And.intro (pk_in k L (by omega)) (br_c (fun _ => ?_) (fun _ => ?_)))
    · obtain ⟨A2, f2, K2⟩ := tm_feedAny (((xs (nI k).toNatClampNeg >>> ((2 : Int32) &&& 31)) >>> ((4 : Int32) &&& 31)) &&& 127) f1
      refine K2 _ _ B h1 ?_
      intro _ u3 h3
      obtain ⟨at_, kc, kn, a1, a2, a3, a4, a5, a6, a7, a8, a9, a10, a11, a12, a13, a14, a15, a16, a17, a18, a19, a20, a21, a22, a23, a24⟩ := u3
      refine K2 _ _ B' h2 ?_
      intro _ u4 h4
      obtain ⟨at_b, kcb, knb, a1b, a2b, a3b, a4b, a5b, a6b, a7b, a8b, a9b, a10b, a11b, a12b, a13b, a14b, a15b, a16b, a17b, a18b, a19b, a20b, a21b, a22b, a23b, a24b⟩ := u4
      refine tm_law75 h3 h4 f2 hQ' ?_
      intro at_b kcb knb a1b a2b a3b a4b a5b a6b a7b a8b a9b a10b a11b a12b a13b a14b a15b a16b a17b a18b a19b a20b a21b a22b a23b a24b C h5 hC
      exact ih (k + 1) A2 B C at_ kc kn a1 a2 a3 a4 a5 a6 a7 a8 a9 a10 a11 a12 a13 a14 a15 a16 a17 a18 a19 a20 a21 a22 a23 a24 at_b kcb knb a1b a2b a3b a4b a5b a6b a7b a8b a9b a10b a11b a12b a13b a14b a15b a16b a17b a18b a19b a20b a21b a22b a23b a24b (by omega) h3 h5 f2 hQ hC
    · refine tm_law75 h1 h2 f1 hQ' ?_
      intro at_b kcb knb a1b a2b a3b a4b a5b a6b a7b a8b a9b a10b a11b a12b a13b a14b a15b a16b a17b a18b a19b a20b a21b a22b a23b a24b C h5 hC
      exact ih (k + 1) A1 B C at_ kc kn a1 a2 a3 a4 a5 a6 a7 a8 a9 a10 a11 a12 a13 a14 a15 a16 a17 a18 a19 a20 a21 a22 a23 a24 at_b kcb knb a1b a2b a3b a4b a5b a6b a7b a8b a9b a10b a11b a12b a13b a14b a15b a16b a17b a18b a19b a20b a21b a22b a23b a24b (by omega) h1 h5 f1 hQ hC
theorem i_vc (xs : Nat → Int32) (L : Nat) (hL : L ≤ 260) : wpL_law (fun r => r = 1) L xs := by
  refine ⟨24, 742, by decide, by decide, tm_init ?_⟩
  intro u1 h1
  obtain ⟨at_, kc, kn, a1, a2, a3, a4, a5, a6, a7, a8, a9, a10, a11, a12, a13, a14, a15, a16, a17, a18, a19, a20, a21, a22, a23, a24⟩ := u1
  refine (And.intro (by decide) (And.intro (by decide) (⟨24, 742, by decide, by decide, tm_init ?_⟩)))
  intro u2 h2
  obtain ⟨at_b, kcb, knb, a1b, a2b, a3b, a4b, a5b, a6b, a7b, a8b, a9b, a10b, a11b, a12b, a13b, a14b, a15b, a16b, a17b, a18b, a19b, a20b, a21b, a22b, a23b, a24b⟩ := u2
  exact ⟨L + 1, tm_law18 hL L 0 _ _ _ at_ kc kn a1 a2 a3 a4 a5 a6 a7 a8 a9 a10 a11 a12 a13 a14 a15 a16 a17 a18 a19 a20 a21 a22 a23 a24 at_b kcb knb a1b a2b a3b a4b a5b a6b a7b a8b a9b a10b a11b a12b a13b a14b a15b a16b a17b a18b a19b a20b a21b a22b a23b a24b (by omega) h1 h2 tm_F_Z tm_Q_Z tm_Q_Z⟩
end
