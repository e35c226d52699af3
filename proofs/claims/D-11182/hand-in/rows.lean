section
/-! small facts of numbers -/
theorem le_b8 : ∀ n, n < 128 → (nI n).toInt8.toInt32 = nI n := by decide +kernel
theorem le_nb {n : Nat} (h : n < 128) : vp_nar .byte (nI n) = nI n := by rw [vp_nar_byte]; exact le_b8 n h
theorem le_ip : ∀ q, q < 4 → ¬ (((15 : Int32) >>> (nI q &&& 31)) &&& 1) = 0 := by decide +kernel
theorem le_and3 {n : Nat} (h : n < 2 ^ 32) : nI n &&& 3 = nI (n % 4) := pk_andN h 2 (by decide)
theorem le_48 (d c : Nat) : 48 * nI d + nI c = nI (48 * d + c) := by rw [show (48 : Int32) = nI 48 from rfl, pk_mul, nI_add]
theorem le_or {x y : Int32} (hx : x = 0 ∨ x = 15) (hy : y = 0) : (x ||| (15 &&& (y ^^^ (-1)))).toInt8.toInt32 = 15 := by
  subst hy
  rcases hx with rfl | rfl <;> decide
theorem le_all {y : Int32} (hy : y = 0) : (15 &&& (y ^^^ (-1))).toInt8.toInt32 = (15 : Int32) := by
  subst hy
  decide
/-! the pictures -/
/-- what the plan is (it stays) -/
def le_F (kk mm : Nat) (v w : Int32) (a3 a4 a5 a7 a8 a9 a15 : Nat → Int32) : Prop :=
  (a3 0 = 0 ∧ a3 1 = 7 ∧ a3 2 = 6) ∧ (a4 1 = 0 ∧ a4 2 = 1) ∧ (a5 1 = 0 ∧ a5 2 = 0) ∧ a7 0 = 2 ∧ (a8 0 = nI kk ∧ a8 1 = nI mm) ∧ (a9 0 = v ∧ a9 1 = w) ∧ (∀ d, d < 3 → a15 d = 0)
/-- between two calls: no pairs are there, nothing is big -/
def le_G (a10 a14 a16 : Nat → Int32) : Prop :=
  (∀ d, d < 3 → a10 d = 0) ∧ (∀ d, d < 3 → a14 d = 0) ∧ (∀ d, d < 3 → ¬ a16 d = 2)
def le_key (kk mm j : Nat) : Nat := if j = 0 then kk else mm
def le_val (v w : Int32) (j : Nat) : Int32 := if j = 0 then v else w
/-- the two rows lie in data set 0 -/
def le_R (kk mm : Nat) (v w : Int32) (a10 a12 a13 : Nat → Int32) : Prop :=
  a10 0 = nI 2 ∧ ∀ j, j < 2 → a12 j = nI (le_key kk mm j) ∧ a13 j = le_val v w j
theorem le_key_lt {kk mm : Nat} (hk : kk < 16) (hm : mm < 16) (j : Nat) : le_key kk mm j < 16 := by
  unfold le_key
  split <;> omega
/-! small methods -/
theorem le_isSet {post : Int32 → Prop} {hc lv cl kn vn oc : Int32} {a1 a2 a3 a4 a5 a6 a7 a8 a9 a10 a11 a12 a13 a14 a15 a16 a17 a18 a19 a20 a21 a22 a23 a24 a25 : Nat → Int32} {p : Int32} (d : Nat) (hd : d < 3) (h : post 1) (hp : p = nI d := by rfl) : wpX_isSet post (hc, 3, lv, cl, kn, vn, oc, a1, a2, a3, a4, a5, a6, a7, a8, a9, a10, a11, a12, a13, a14, a15, a16, a17, a18, a19, a20, a21, a22, a23, a24, a25) p := by
  subst hp
  exact br_f (nI_pos (by omega)) (pk_le 3 d (fun z => absurd z (by omega)) (fun _ => h))
theorem le_forget {post : St2 → Prop} {hc sc lv cl kn vn oc : Int32} {a1 a2 a3 a4 a5 a6 a7 a8 a9 a10 a11 a12 a13 a14 a15 a16 a17 a18 a19 a20 a21 a22 a23 a24 a25 : Nat → Int32} {p : Int32} (d : Nat) (hd : d < 16) (h : post (hc, sc, lv, cl, kn, vn, oc, a1, a2, a3, a4, a5, a6, a7, a8, a9, upd a10 d 0, a11, a12, a13, upd a14 d 0, a15, a16, a17, a18, a19, a20, a21, a22, a23, a24, a25)) (hp : p = nI d := by rfl) : wpX_forget post (hc, sc, lv, cl, kn, vn, oc, a1, a2, a3, a4, a5, a6, a7, a8, a9, a10, a11, a12, a13, a14, a15, a16, a17, a18, a19, a20, a21, a22, a23, a24, a25) p := by
  subst hp
  have e : (nI d).toNatClampNeg = d := nI_clamp (by omega)
  exact ⟨pk_in d 16 hd, nm_r (by rw [e]) ⟨pk_in d 16 hd, nm_r (by rw [e]) h⟩⟩
theorem le_isPart {post : Int32 → Prop} {hc sc lv cl kn vn oc : Int32} {a1 a2 a3 a4 a5 a6 a7 a8 a9 a10 a11 a12 a13 a14 a15 a16 a17 a18 a19 a20 a21 a22 a23 a24 a25 : Nat → Int32} {p : Int32} (q : Nat) (hq : q < 4) (h : post 1) (hp : p = nI q := by rfl) : wpX_isPart post (hc, sc, lv, cl, kn, vn, oc, a1, a2, a3, a4, a5, a6, a7, a8, a9, a10, a11, a12, a13, a14, a15, a16, a17, a18, a19, a20, a21, a22, a23, a24, a25) 15 p := by
  subst hp
  exact br_f (le_ip q hq) h
theorem le_isStep {post : Int32 → Prop} {hc sc lv cl kn vn oc : Int32} {a1 a2 a3 a4 a5 a6 a7 a8 a9 a10 a11 a12 a13 a14 a15 a16 a17 a18 a19 a20 a21 a22 a23 a24 a25 : Nat → Int32} {p : Int32} (hp : p = 0 ∨ p = 6 ∨ p = 7) (h : post 0) : wpX_isStep post (hc, sc, lv, cl, kn, vn, oc, a1, a2, a3, a4, a5, a6, a7, a8, a9, a10, a11, a12, a13, a14, a15, a16, a17, a18, a19, a20, a21, a22, a23, a24, a25) p := by
  rcases hp with rfl | rfl | rfl <;> exact br_f (by decide) (br_f (by decide) (br_f (by decide) (br_f (by decide) h)))
theorem le_isWide {post : Int32 → Prop} {hc sc lv cl kn vn oc : Int32} {a1 a2 a3 a4 a5 a6 a7 a8 a9 a10 a11 a12 a13 a14 a15 a16 a17 a18 a19 a20 a21 a22 a23 a24 a25 : Nat → Int32} {p : Int32} (hp : p = 6 ∨ p = 7) (h : post 1) : wpX_isWide post (hc, sc, lv, cl, kn, vn, oc, a1, a2, a3, a4, a5, a6, a7, a8, a9, a10, a11, a12, a13, a14, a15, a16, a17, a18, a19, a20, a21, a22, a23, a24, a25) p := by
  rcases hp with rfl | rfl <;> exact br_f (by decide) (br_f (by decide) h)
theorem le_two7 {post : Int32 → Prop} {hc sc lv cl kn vn oc : Int32} {a1 a2 a3 a4 a5 a6 a7 a8 a9 a10 a11 a12 a13 a14 a15 a16 a17 a18 a19 a20 a21 a22 a23 a24 a25 : Nat → Int32} {p : Int32} (hp : p = 7) (h : post 1) : wpX_hasTwo post (hc, sc, lv, cl, kn, vn, oc, a1, a2, a3, a4, a5, a6, a7, a8, a9, a10, a11, a12, a13, a14, a15, a16, a17, a18, a19, a20, a21, a22, a23, a24, a25) p := by
  subst hp
  exact br_f (by decide) (br_t rfl h)
theorem le_two6 {post : Int32 → Prop} {hc sc lv cl kn vn oc : Int32} {a1 a2 a3 a4 a5 a6 a7 a8 a9 a10 a11 a12 a13 a14 a15 a16 a17 a18 a19 a20 a21 a22 a23 a24 a25 : Nat → Int32} {p : Int32} (hp : p = 6 ∨ p = 0) (h : post 0) : wpX_hasTwo post (hc, sc, lv, cl, kn, vn, oc, a1, a2, a3, a4, a5, a6, a7, a8, a9, a10, a11, a12, a13, a14, a15, a16, a17, a18, a19, a20, a21, a22, a23, a24, a25) p := by
  rcases hp with rfl | rfl <;> exact br_f (by decide) (br_f (by decide) (br_f (by decide) h))
theorem le_addPair {post : Int32 → St2 → Prop} {hc sc lv cl kn vn oc : Int32} {a1 a2 a3 a4 a5 a6 a7 a8 a9 a10 a11 a12 a13 a14 a15 a16 a17 a18 a19 a20 a21 a22 a23 a24 a25 : Nat → Int32} {p0 p1 p2 p3 : Int32} (d c q k : Nat) (x : Int32) (hd : d < 16) (hc48 : c < 48) (hq : q < 4) (hk : k < 16) (h10 : a10 d = nI c)
    (h : post 1 (hc, sc, lv, cl, kn, vn, oc, a1, a2, a3, a4, a5, a6, a7, a8, a9, upd a10 d (nI (c + 1)), upd a11 (48 * d + c) (nI q), upd a12 (48 * d + c) (nI k), upd a13 (48 * d + c) x, a14, a15, a16, a17, a18, a19, a20, a21, a22, a23, a24, a25))
    (hp0 : p0 = nI d := by rfl) (hp1 : p1 = nI q := by rfl) (hp2 : p2 = nI k := by rfl) (hp3 : p3 = x := by rfl) : wpX_addPair post (hc, sc, lv, cl, kn, vn, oc, a1, a2, a3, a4, a5, a6, a7, a8, a9, a10, a11, a12, a13, a14, a15, a16, a17, a18, a19, a20, a21, a22, a23, a24, a25) p0 p1 p2 p3 := by
  subst hp0 hp1 hp2 hp3
  have e : (nI d).toNatClampNeg = d := nI_clamp (by omega)
  have e2 : (nI (48 * d + c)).toNatClampNeg = 48 * d + c := nI_clamp (by omega)
  refine ⟨pk_in d 16 hd, ?_⟩
  rw [e, h10]
  exact br_t (nI_lt hc48 (by decide)) ⟨pk_in d 16 hd, nm_r (le_48 d c) ⟨pk_in (48 * d + c) 768 (by omega), nm_r (by rw [e2, le_b8 q (by omega)]) ⟨pk_in (48 * d + c) 768 (by omega), nm_r (by rw [e2, le_b8 k (by omega)]) ⟨pk_in (48 * d + c) 768 (by omega), nm_r (by rw [e2]) ⟨pk_in d 16 hd, ⟨pk_in d 16 hd, nm_r (by rw [nI_1, le_b8 (c + 1) (by omega)]) h⟩⟩⟩⟩⟩⟩
theorem le_need {post : St2 → Prop} {hc sc lv cl kn vn oc : Int32} {a1 a2 a3 a4 a5 a6 a7 a8 a9 a10 a11 a12 a13 a14 a15 a16 a17 a18 a19 a20 a21 a22 a23 a24 a25 : Nat → Int32} {p0 p1 : Int32} (d : Nat) (hd : d < 16) (h17 : a17 d = 0 ∨ a17 d = 15) (h14 : a14 d = 0) (h : ∀ b18, post (hc, sc, lv, cl, kn, vn, oc, a1, a2, a3, a4, a5, a6, a7, a8, a9, a10, a11, a12, a13, a14, a15, a16, upd a17 d 15, b18, a19, a20, a21, a22, a23, a24, a25)) (hp0 : p0 = nI d := by rfl) (hp1 : p1 = 15 := by rfl) : wpX_need post (hc, sc, lv, cl, kn, vn, oc, a1, a2, a3, a4, a5, a6, a7, a8, a9, a10, a11, a12, a13, a14, a15, a16, a17, a18, a19, a20, a21, a22, a23, a24, a25) p0 p1 := by
  subst hp0 hp1
  have e : (nI d).toNatClampNeg = d := nI_clamp (by omega)
  exact ⟨pk_in d 16 hd, pk_in d 16 hd, pk_in d 16 hd, nm_r (by rw [e, le_or h17 h14]) ⟨pk_in d 16 hd, pk_in d 16 hd, fun b18 _ => h b18⟩⟩
theorem le_passed {post : Int32 → Prop} {hc sc lv cl kn vn oc : Int32} {a1 a2 a3 a4 a5 a6 a7 a8 a9 a10 a11 a12 a13 a14 a15 a16 a17 a18 a19 a20 a21 a22 a23 a24 a25 : Nat → Int32} {p0 p1 : Int32} (i : Nat) (hi : i < 16) (h3 : a3 i = 0 ∨ a3 i = 6 ∨ a3 i = 7) (h : post 0) (hp0 : p0 = nI i := by rfl) : wpX_isPassedOver post (hc, sc, lv, cl, kn, vn, oc, a1, a2, a3, a4, a5, a6, a7, a8, a9, a10, a11, a12, a13, a14, a15, a16, a17, a18, a19, a20, a21, a22, a23, a24, a25) p0 p1 := by
  subst hp0
  have e : (nI i).toNatClampNeg = i := nI_clamp (by omega)
  have h3' : a3 (nI i).toNatClampNeg = 0 ∨ a3 (nI i).toNatClampNeg = 6 ∨ a3 (nI i).toNatClampNeg = 7 := by rw [e]; exact h3
  exact br_c (fun _ => h) (fun _ => br_c (fun _ => h) (fun _ => ⟨pk_in i 16 hi, br_c (fun _ => ⟨pk_in i 16 hi, br_c (fun _ => ⟨pk_in i 16 hi, br_c (fun _ => ⟨pk_in i 16 hi, le_isStep h3' (br_t rfl h)⟩) (fun _ => h)⟩) (fun _ => h)⟩) (fun _ => h)⟩))
theorem le_tidy {post : St2 → Prop} {hc lv cl kn vn oc : Int32} {a1 a2 a3 a4 a5 a6 a7 a8 a9 a10 a11 a12 a13 a14 a15 a16 a17 a18 a19 a20 a21 a22 a23 a24 a25 : Nat → Int32} (h15 : ∀ d, d < 3 → a15 d = 0) (H : ∀ b10 b14, (∀ d, d < 3 → b10 d = 0) → (∀ d, d < 3 → b14 d = 0) → post (hc, 3, lv, cl, kn, vn, oc, a1, a2, a3, a4, a5, a6, a7, a8, a9, b10, a11, a12, a13, b14, a15, a16, a17, a18, a19, a20, a21, a22, a23, a24, a25)) : wpX_tidy post (hc, 3, lv, cl, kn, vn, oc, a1, a2, a3, a4, a5, a6, a7, a8, a9, a10, a11, a12, a13, a14, a15, a16, a17, a18, a19, a20, a21, a22, a23, a24, a25) :=
  pk_loop (σ := (Nat → Int32) × (Nat → Int32)) (fun n i s => wX_tidy_2 post n (nI i) hc 3 lv cl kn vn oc a1 a2 a3 a4 a5 a6 a7 a8 a9 s.1 a11 a12 a13 s.2 a15 a16 a17 a18 a19 a20 a21 a22 a23 a24 a25) (fun i s => ∀ d, d < i → s.1 d = 0 ∧ s.2 d = 0) 3 0 (a10, a14) (by omega) lt_0
    (fun n s h => pk_le 3 3 (fun _ => H s.1 s.2 (fun d hd => (h d hd).1) (fun d hd => (h d hd).2)) (fun z => absurd z (by omega)))
    (fun n i s hi h hw => pk_le 3 i (fun z => absurd z (by omega)) (fun _ => ⟨pk_in i 16 (by omega), br_t (by rw [nI_clamp (by omega)]; exact h15 i hi) (le_forget i (by omega) (nm_r (nI_1 i) (hw (upd s.1 i 0, upd s.2 i 0) (fun d hd => by
      by_cases e : d = i
      · subst e
        exact ⟨pk_us, pk_us⟩
      · exact ⟨(pk_un e).trans (h d (by omega)).1, (pk_un e).trans (h d (by omega)).2⟩))))⟩))
end
section
/-! what is needed -/
theorem le_fn0 {post : St2 → Prop} {hc sc lv cl kn vn oc : Int32} {a1 a2 a3 a4 a5 a6 a7 a8 a9 a10 a11 a12 a13 a14 a15 a16 a17 a18 a19 a20 a21 a22 a23 a24 a25 : Nat → Int32} (n : Nat) (h3 : a3 0 = 0) (h : post (hc, sc, lv, cl, kn, vn, oc, a1, a2, a3, a4, a5, a6, a7, a8, a9, a10, a11, a12, a13, a14, a15, a16, a17, a18, a19, a20, a21, a22, a23, a24, a25)) : wX_findNeeded_48 post (n + 2) 0 hc sc lv cl kn vn oc a1 a2 a3 a4 a5 a6 a7 a8 a9 a10 a11 a12 a13 a14 a15 a16 a17 a18 a19 a20 a21 a22 a23 a24 a25 := by
  have stop : wX_findNeeded_48 post (n + 1) (-1) hc sc lv cl kn vn oc a1 a2 a3 a4 a5 a6 a7 a8 a9 a10 a11 a12 a13 a14 a15 a16 a17 a18 a19 a20 a21 a22 a23 a24 a25 := br_t (by decide) h
  exact br_f (by decide) ⟨pk_in 0 16 (by omega), br_c (fun _ => nm_r (by rfl) stop) (fun _ => ⟨pk_in 0 16 (by omega), br_t h3 (nm_r (by rfl) stop)⟩)⟩
theorem le_fn1 {post : St2 → Prop} {hc sc lv cl kn vn oc : Int32} {a1 a2 a3 a4 a5 a6 a7 a8 a9 a10 a11 a12 a13 a14 a15 a16 a17 a18 a19 a20 a21 a22 a23 a24 a25 : Nat → Int32} (n : Nat) (h3 : a3 0 = 0) (h31 : a3 1 = 7) (h41 : a4 1 = 0) (h51 : a5 1 = 0) (h14 : a14 0 = 0) (h17 : a17 0 = 0) (h171 : a17 1 = 15)
    (H : ∀ b18, post (hc, sc, lv, cl, kn, vn, oc, a1, a2, a3, a4, a5, a6, a7, a8, a9, a10, a11, a12, a13, a14, a15, a16, upd (upd a17 0 15) 0 15, b18, a19, a20, a21, a22, a23, a24, a25)) : wX_findNeeded_48 post (n + 3) 1 hc sc lv cl kn vn oc a1 a2 a3 a4 a5 a6 a7 a8 a9 a10 a11 a12 a13 a14 a15 a16 a17 a18 a19 a20 a21 a22 a23 a24 a25 := by
  have n7 : ¬ a3 (1 : Int32).toNatClampNeg = 0 := by
    show ¬ a3 1 = 0
    rw [h31]
    decide
  have n17 : ¬ a17 (1 : Int32).toNatClampNeg = 0 := by
    show ¬ a17 1 = 0
    rw [h171]
    decide
  refine br_f (by decide) ⟨pk_in 1 16 (by omega), br_f n17 ⟨pk_in 1 16 (by omega), br_f n7 ⟨pk_in 1 16 (by omega), le_isWide (Or.inr h31) (br_f (by decide) ?_)⟩⟩⟩
  refine ⟨pk_in 1 16 (by omega), le_need 0 (by omega) (Or.inl h17) h14 (fun b18 => ?_) (hp0 := h41)⟩
  refine ⟨pk_in 1 16 (by omega), le_two7 h31 (br_f (by decide) ⟨pk_in 1 16 (by omega), le_need 0 (by omega) (Or.inr pk_us) h14 (fun c18 => ?_) (hp0 := h51)⟩)⟩
  exact nm_r (by rfl) (le_fn0 n h3 (H c18))
theorem le_fn2 {post : St2 → Prop} {hc sc lv cl kn vn oc : Int32} {a1 a2 a3 a4 a5 a6 a7 a8 a9 a10 a11 a12 a13 a14 a15 a16 a17 a18 a19 a20 a21 a22 a23 a24 a25 : Nat → Int32} (n : Nat) (h3 : a3 0 = 0) (h31 : a3 1 = 7) (h32 : a3 2 = 6) (h41 : a4 1 = 0) (h42 : a4 2 = 1) (h51 : a5 1 = 0) (h14 : a14 0 = 0) (h141 : a14 1 = 0) (h17 : a17 0 = 0) (h171 : a17 1 = 0) (h172 : a17 2 = 15)
    (H : ∀ b18, post (hc, sc, lv, cl, kn, vn, oc, a1, a2, a3, a4, a5, a6, a7, a8, a9, a10, a11, a12, a13, a14, a15, a16, upd (upd (upd a17 1 15) 0 15) 0 15, b18, a19, a20, a21, a22, a23, a24, a25)) : wX_findNeeded_48 post (n + 4) 2 hc sc lv cl kn vn oc a1 a2 a3 a4 a5 a6 a7 a8 a9 a10 a11 a12 a13 a14 a15 a16 a17 a18 a19 a20 a21 a22 a23 a24 a25 := by
  have n6 : ¬ a3 (2 : Int32).toNatClampNeg = 0 := by
    show ¬ a3 2 = 0
    rw [h32]
    decide
  have n17 : ¬ a17 (2 : Int32).toNatClampNeg = 0 := by
    show ¬ a17 2 = 0
    rw [h172]
    decide
  refine br_f (by decide) ⟨pk_in 2 16 (by omega), br_f n17 ⟨pk_in 2 16 (by omega), br_f n6 ⟨pk_in 2 16 (by omega), le_isWide (Or.inl h32) (br_f (by decide) ?_)⟩⟩⟩
  refine ⟨pk_in 2 16 (by omega), le_need 1 (by omega) (Or.inl h171) h141 (fun b18 => ?_) (hp0 := h42)⟩
  refine ⟨pk_in 2 16 (by omega), le_two6 (Or.inl h32) (br_t rfl ?_)⟩
  exact nm_r (by rfl) (le_fn1 n h3 h31 h41 h51 h14 ((pk_un (by decide)).trans h17) pk_us H)
/-- the loop that clears, then the walk back -/
theorem le_fnd {post : St2 → Prop} {hc sc lv cl kn vn oc : Int32} {a1 a2 a3 a4 a5 a6 a7 a8 a9 a10 a11 a12 a13 a14 a15 a16 a17 a18 a19 a20 a21 a22 a23 a24 a25 : Nat → Int32} {p : Int32} (d : Nat) (hd : d < 16) (h14 : a14 d = 0) (H : ∀ b17 b18, (∀ j, j < 16 → b17 j = 0) → ∃ fu, wX_findNeeded_48 post fu p hc sc lv cl kn vn oc a1 a2 a3 a4 a5 a6 a7 a8 a9 a10 a11 a12 a13 a14 a15 a16 (upd b17 d 15) b18 a19 a20 a21 a22 a23 a24 a25) (hp : p = nI d := by rfl) : wpX_findNeeded post (hc, sc, lv, cl, kn, vn, oc, a1, a2, a3, a4, a5, a6, a7, a8, a9, a10, a11, a12, a13, a14, a15, a16, a17, a18, a19, a20, a21, a22, a23, a24, a25) p := by
  subst hp
  have e : (nI d).toNatClampNeg = d := nI_clamp (by omega)
  exact pk_loop (σ := (Nat → Int32) × (Nat → Int32)) (fun n i s => wX_findNeeded_2 post (nI d) hc sc lv cl kn vn oc n (nI i) a1 a2 a3 a4 a5 a6 a7 a8 a9 a10 a11 a12 a13 a14 a15 a16 s.1 s.2 a19 a20 a21 a22 a23 a24 a25) (fun i s => ∀ j, j < i → s.1 j = 0) 16 0 (a17, a18) (by omega) lt_0
    (fun n s h => pk_le 16 16 (fun _ => ⟨pk_in d 16 hd, pk_in d 16 hd, nm_r (by rw [e, le_all h14]) (H s.1 s.2 h)⟩) (fun z => absurd z (by omega)))
    (fun n i s hi h hw => pk_le 16 i (fun z => absurd z (by omega)) (fun _ => ⟨pk_in i 16 hi, nm_r (by rw [nI_clamp (show i < 2 ^ 31 by omega)]) ⟨pk_in i 16 hi, nm_r (by rw [nI_clamp (show i < 2 ^ 31 by omega)]) (nm_r (nI_1 i) (hw (upd s.1 i 0, upd s.2 i 0) (fun j hj => by
      by_cases g : j = i
      · subst g
        exact pk_us
      · exact (pk_un g).trans (h j (by omega)))))⟩⟩))
theorem le_find0 {post : St2 → Prop} {hc sc lv cl kn vn oc : Int32} {a1 a2 a3 a4 a5 a6 a7 a8 a9 a10 a11 a12 a13 a14 a15 a16 a17 a18 a19 a20 a21 a22 a23 a24 a25 : Nat → Int32} {kk mm : Nat} {v w : Int32} (f : le_F kk mm v w a3 a4 a5 a7 a8 a9 a15) (g : ∀ d, d < 3 → a14 d = 0)
    (H : ∀ b17 b18, b17 0 = 15 → post (hc, sc, lv, cl, kn, vn, oc, a1, a2, a3, a4, a5, a6, a7, a8, a9, a10, a11, a12, a13, a14, a15, a16, b17, b18, a19, a20, a21, a22, a23, a24, a25)) : wpX_findNeeded post (hc, sc, lv, cl, kn, vn, oc, a1, a2, a3, a4, a5, a6, a7, a8, a9, a10, a11, a12, a13, a14, a15, a16, a17, a18, a19, a20, a21, a22, a23, a24, a25) 0 :=
  le_fnd 0 (by omega) (g 0 (by omega)) (fun b17 b18 _ => ⟨2, le_fn0 0 f.1.1 (H _ _ pk_us)⟩)
theorem le_find1 {post : St2 → Prop} {hc sc lv cl kn vn oc : Int32} {a1 a2 a3 a4 a5 a6 a7 a8 a9 a10 a11 a12 a13 a14 a15 a16 a17 a18 a19 a20 a21 a22 a23 a24 a25 : Nat → Int32} {kk mm : Nat} {v w : Int32} (f : le_F kk mm v w a3 a4 a5 a7 a8 a9 a15) (g : ∀ d, d < 3 → a14 d = 0)
    (H : ∀ b17 b18, b17 0 = 15 → b17 1 = 15 → post (hc, sc, lv, cl, kn, vn, oc, a1, a2, a3, a4, a5, a6, a7, a8, a9, a10, a11, a12, a13, a14, a15, a16, b17, b18, a19, a20, a21, a22, a23, a24, a25)) : wpX_findNeeded post (hc, sc, lv, cl, kn, vn, oc, a1, a2, a3, a4, a5, a6, a7, a8, a9, a10, a11, a12, a13, a14, a15, a16, a17, a18, a19, a20, a21, a22, a23, a24, a25) 1 :=
  le_fnd 1 (by omega) (g 1 (by omega)) (fun b17 b18 hb => ⟨3, le_fn1 0 f.1.1 f.1.2.1 f.2.1.1 f.2.2.1.1 (g 0 (by omega)) ((pk_un (by decide)).trans (hb 0 (by omega))) pk_us (fun c18 => H _ _ pk_us rfl)⟩)
theorem le_find2 {post : St2 → Prop} {hc sc lv cl kn vn oc : Int32} {a1 a2 a3 a4 a5 a6 a7 a8 a9 a10 a11 a12 a13 a14 a15 a16 a17 a18 a19 a20 a21 a22 a23 a24 a25 : Nat → Int32} {kk mm : Nat} {v w : Int32} (f : le_F kk mm v w a3 a4 a5 a7 a8 a9 a15) (g : ∀ d, d < 3 → a14 d = 0)
    (H : ∀ b17 b18, b17 0 = 15 → b17 1 = 15 → b17 2 = 15 → post (hc, sc, lv, cl, kn, vn, oc, a1, a2, a3, a4, a5, a6, a7, a8, a9, a10, a11, a12, a13, a14, a15, a16, b17, b18, a19, a20, a21, a22, a23, a24, a25)) : wpX_findNeeded post (hc, sc, lv, cl, kn, vn, oc, a1, a2, a3, a4, a5, a6, a7, a8, a9, a10, a11, a12, a13, a14, a15, a16, a17, a18, a19, a20, a21, a22, a23, a24, a25) 2 :=
  le_fnd 2 (by omega) (g 2 (by omega)) (fun b17 b18 hb => ⟨4, le_fn2 0 f.1.1 f.1.2.1 f.1.2.2 f.2.1.1 f.2.1.2 f.2.2.1.1 (g 0 (by omega)) (g 1 (by omega)) ((pk_un (by decide)).trans (hb 0 (by omega))) ((pk_un (by decide)).trans (hb 1 (by omega))) pk_us (fun c18 => H _ _ pk_us rfl rfl)⟩)
end
section
/-! the two rows are laid, and what closes makeParts -/
theorem le_makeRows {post : St2 → Prop} {hc sc lv cl kn vn oc : Int32} {a1 a2 a3 a4 a5 a6 a7 a8 a9 a10 a11 a12 a13 a14 a15 a16 a17 a18 a19 a20 a21 a22 a23 a24 a25 : Nat → Int32} {kk mm : Nat} {v w : Int32} (hk : kk < 16) (hm : mm < 16) (f : le_F kk mm v w a3 a4 a5 a7 a8 a9 a15) (h10 : ∀ d, d < 3 → a10 d = 0)
    (H : ∀ b10 b11 b12 b13, le_R kk mm v w b10 b12 b13 → b10 1 = 0 → b10 2 = 0 → post (hc, sc, lv, cl, kn, vn, oc, a1, a2, a3, a4, a5, a6, a7, a8, a9, b10, b11, b12, b13, a14, a15, a16, a17, a18, a19, a20, a21, a22, a23, a24, a25)) : wpX_makeRows post (hc, sc, lv, cl, kn, vn, oc, a1, a2, a3, a4, a5, a6, a7, a8, a9, a10, a11, a12, a13, a14, a15, a16, a17, a18, a19, a20, a21, a22, a23, a24, a25) 0 15 := by
  obtain ⟨-, -, -, f7, ⟨f80, f81⟩, ⟨f90, f91⟩, -⟩ := f
  refine ⟨3, ⟨pk_in 0 16 (by omega), pk_le 2 0 (fun z => absurd z (by omega)) (fun _ => le_isPart 0 (by omega) (br_f (by decide) ⟨pk_in 0 384 (by omega), pk_in 0 384 (by omega), ?_⟩)) (hx := f7)⟩⟩
  refine le_addPair 0 0 0 kk v (by omega) (by omega) (by omega) hk (h10 0 (by omega)) (nm_r (by rfl) ?_) (hp2 := f80) (hp3 := f90)
  refine ⟨pk_in 0 16 (by omega), pk_le 2 1 (fun z => absurd z (by omega)) (fun _ => le_isPart 1 (by omega) (br_f (by decide) ⟨pk_in 1 384 (by omega), pk_in 1 384 (by omega), ?_⟩)) (hx := f7)⟩
  refine le_addPair 0 1 1 mm w (by omega) (by omega) (by omega) hm pk_us (nm_r (by rfl) ?_) (hp2 := f81) (hp3 := f91)
  refine ⟨pk_in 0 16 (by omega), pk_le 2 2 (fun _ => ?_) (fun z => absurd z (by omega)) (hx := f7)⟩
  refine H _ _ _ _ ⟨rfl, fun j hj => ?_⟩ (h10 1 (by omega)) (h10 2 (by omega))
  have c : j = 0 ∨ j = 1 := by omega
  rcases c with rfl | rfl
  · exact ⟨rfl, rfl⟩
  · exact ⟨rfl, rfl⟩
theorem le_mp127 {post : Int32 → St2 → Prop} {hc sc lv cl kn vn oc : Int32} {a1 a2 a3 a4 a5 a6 a7 a8 a9 a10 a11 a12 a13 a14 a15 a16 a17 a18 a19 a20 a21 a22 a23 a24 a25 : Nat → Int32} {p x3 : Int32} (i : Nat) (hi : i < 16) (h : ∀ b14, post 1 (hc, sc, lv, cl, kn, vn, oc, a1, a2, a3, a4, a5, a6, a7, a8, a9, a10, a11, a12, a13, b14, a15, upd a16 i 1, a17, a18, a19, a20, a21, a22, a23, a24, a25)) (hp : p = nI i := by rfl) : wX_makeParts_127 post p x3 1 hc sc lv cl kn vn oc a1 a2 a3 a4 a5 a6 a7 a8 a9 a10 a11 a12 a13 a14 a15 a16 a17 a18 a19 a20 a21 a22 a23 a24 a25 := by
  subst hp
  have e : (nI i).toNatClampNeg = i := nI_clamp (by omega)
  refine ⟨pk_in i 16 hi, pk_in i 16 hi, fun b14 _ => br_f (by decide) ⟨pk_in i 16 hi, nm_r (by rw [e]) ?_⟩⟩
  exact br_f (by decide) ⟨pk_in i 16 hi, br_t (by rw [e]; exact pk_us) (h b14)⟩
theorem le_mp0 {post : Int32 → St2 → Prop} {hc sc lv cl kn vn oc : Int32} {a1 a2 a3 a4 a5 a6 a7 a8 a9 a10 a11 a12 a13 a14 a15 a16 a17 a18 a19 a20 a21 a22 a23 a24 a25 : Nat → Int32} {kk mm : Nat} {v w : Int32} (hk : kk < 16) (hm : mm < 16) (f : le_F kk mm v w a3 a4 a5 a7 a8 a9 a15) (h10 : ∀ d, d < 3 → a10 d = 0) (h17 : a17 0 = 15)
    (H : ∀ b10 b11 b12 b13 b14, le_R kk mm v w b10 b12 b13 → b10 1 = 0 → b10 2 = 0 → post 1 (hc, sc, lv, cl, kn, vn, oc, a1, a2, a3, a4, a5, a6, a7, a8, a9, b10, b11, b12, b13, b14, a15, upd a16 0 1, a17, a18, a19, a20, a21, a22, a23, a24, a25)) : wpX_makeParts post (hc, sc, lv, cl, kn, vn, oc, a1, a2, a3, a4, a5, a6, a7, a8, a9, a10, a11, a12, a13, a14, a15, a16, a17, a18, a19, a20, a21, a22, a23, a24, a25) 0 :=
  ⟨pk_in 0 16 (by omega), nm_r f.1.1 ⟨pk_in 0 16 (by omega), nm_r h17 (br_t rfl (le_makeRows hk hm f h10 (fun b10 b11 b12 b13 r e1 e2 => le_mp127 0 (by omega) (fun b14 => H b10 b11 b12 b13 b14 r e1 e2))))⟩⟩
end
section
/-! the join: what lies in data set 1 (keys K, values V, c pairs) -/
def le_T (K : Nat → Nat) (V : Nat → Int32) (c : Nat) (a10 a11 a12 a13 : Nat → Int32) : Prop :=
  a10 1 = nI c ∧ ∀ j, j < c → a11 (48 + j) = nI (K j % 4) ∧ a12 (48 + j) = nI (K j) ∧ a13 (48 + j) = V j
def le_J (kk mm : Nat) (v w : Int32) (K : Nat → Nat) (V : Nat → Int32) (c : Nat) (a10 a11 a12 a13 : Nat → Int32) : Prop :=
  le_R kk mm v w a10 a12 a13 ∧ a10 2 = 0 ∧ le_T K V c a10 a11 a12 a13
theorem le_J_add {kk mm : Nat} {v w : Int32} {K : Nat → Nat} {V : Nat → Int32} {c : Nat} {a10 a11 a12 a13 : Nat → Int32} (h : le_J kk mm v w K V c a10 a11 a12 a13) {k : Nat} {x : Int32} (hk : K c = k) (hx : V c = x) :
    le_J kk mm v w K V (c + 1) (upd a10 1 (nI (c + 1))) (upd a11 (48 * 1 + c) (nI (k % 4))) (upd a12 (48 * 1 + c) (nI k)) (upd a13 (48 * 1 + c) x) := by
  subst hk hx
  obtain ⟨⟨r0, r1⟩, h2, ⟨t0, t1⟩⟩ := h
  refine ⟨⟨(pk_un (by decide)).trans r0, fun j hj => ?_⟩, (pk_un (by decide)).trans h2, pk_us, fun j hj => ?_⟩
  · exact ⟨(pk_un (by omega)).trans (r1 j hj).1, (pk_un (by omega)).trans (r1 j hj).2⟩
  · by_cases e : j = c
    · subst e
      exact ⟨pk_us, pk_us, pk_us⟩
    · have e' : 48 + j ≠ 48 * 1 + c := by omega
      have t := t1 j (by omega)
      exact ⟨(pk_un e').trans t.1, (pk_un e').trans t.2.1, (pk_un e').trans t.2.2⟩
/-- one pair of rows -/
theorem le_j68 {post : Int32 → St2 → Prop} {J : Int32 → Int32 → Int32 → Int32 → Int32 → Int32 → Int32 → Int32 → (Nat → Int32) → (Nat → Int32) → (Nat → Int32) → (Nat → Int32) → (Nat → Int32) → (Nat → Int32) → (Nat → Int32) → (Nat → Int32) → (Nat → Int32) → (Nat → Int32) → (Nat → Int32) → (Nat → Int32) → (Nat → Int32) → (Nat → Int32) → (Nat → Int32) → (Nat → Int32) → (Nat → Int32) → (Nat → Int32) → (Nat → Int32) → (Nat → Int32) → (Nat → Int32) → (Nat → Int32) → (Nat → Int32) → (Nat → Int32) → (Nat → Int32) → Prop} {hc sc lv cl kn vn oc : Int32} {a1 a2 a3 a4 a5 a6 a7 a8 a9 a10 a11 a12 a13 a14 a15 a16 a17 a18 a19 a20 a21 a22 a23 a24 a25 : Nat → Int32} {n kk mm : Nat} {v w : Int32} {K : Nat → Nat} {V : Nat → Int32} {c : Nat} (i j : Nat) (hk : kk < 16) (hm : mm < 16) (hi : i < 2) (hj : j < 2) (hI : le_J kk mm v w K V c a10 a11 a12 a13)
    (hit : le_key kk mm j = le_key kk mm i → c < 48 ∧ K c = le_key kk mm i ∧ V c = le_val v w i + le_val v w j ∧ ∀ b10 b11 b12 b13, le_J kk mm v w K V (c + 1) b10 b11 b12 b13 → wX_makeJoin_68 post J 1 15 0 0 (nI i) (nI (le_key kk mm i % 4)) n (nI (j + 1)) hc sc lv cl kn vn oc a1 a2 a3 a4 a5 a6 a7 a8 a9 b10 b11 b12 b13 a14 a15 a16 a17 a18 a19 a20 a21 a22 a23 a24 a25)
    (miss : ¬ le_key kk mm j = le_key kk mm i → wX_makeJoin_68 post J 1 15 0 0 (nI i) (nI (le_key kk mm i % 4)) n (nI (j + 1)) hc sc lv cl kn vn oc a1 a2 a3 a4 a5 a6 a7 a8 a9 a10 a11 a12 a13 a14 a15 a16 a17 a18 a19 a20 a21 a22 a23 a24 a25) :
    wX_makeJoin_68 post J 1 15 0 0 (nI i) (nI (le_key kk mm i % 4)) (n + 1) (nI j) hc sc lv cl kn vn oc a1 a2 a3 a4 a5 a6 a7 a8 a9 a10 a11 a12 a13 a14 a15 a16 a17 a18 a19 a20 a21 a22 a23 a24 a25 := by
  have ei : (nI i).toNatClampNeg = i := nI_clamp (by omega)
  have ej : (nI j).toNatClampNeg = j := nI_clamp (by omega)
  have li := le_key_lt hk hm i
  have lj := le_key_lt hk hm j
  have r := hI.1
  have x0 : 48 * (0 : Int32) + a10 (0 : Int32).toNatClampNeg = nI 2 := by
    show 48 * (0 : Int32) + a10 0 = nI 2
    rw [r.1]
    rfl
  have ai : a12 (nI i).toNatClampNeg = nI (le_key kk mm i) := by rw [ei]; exact (r.2 i hi).1
  have aj : a12 (nI j).toNatClampNeg = nI (le_key kk mm j) := by rw [ej]; exact (r.2 j hj).1
  have vi : a13 (nI i).toNatClampNeg = le_val v w i := by rw [ei]; exact (r.2 i hi).2
  have vj : a13 (nI j).toNatClampNeg = le_val v w j := by rw [ej]; exact (r.2 j hj).2
  refine ⟨pk_in 0 16 (by omega), pk_le 2 j (fun z => absurd z (by omega)) (fun _ => ⟨pk_in j 768 (by omega), pk_in i 768 (by omega), pk_eq (le_key kk mm j) (le_key kk mm i) (fun z => ⟨pk_in i 768 (by omega), pk_in i 768 (by omega), pk_in j 768 (by omega), ?_⟩) (fun z => nm_r (nI_1 j) (miss z)) (hx := aj) (hy := ai)⟩) (hx := x0)⟩
  obtain ⟨hc, hK, hV, hn⟩ := hit z
  exact le_addPair 1 c (le_key kk mm i % 4) (le_key kk mm i) (le_val v w i + le_val v w j) (by omega) hc (by omega) li hI.2.2.1 (br_f (by decide) (nm_r (nI_1 j) (hn _ _ _ _ (le_J_add hI hK hV)))) (hp2 := ai) (hp3 := by rw [vi, vj])
/-- behind the last row -/
theorem le_j68e {post : Int32 → St2 → Prop} {J : Int32 → Int32 → Int32 → Int32 → Int32 → Int32 → Int32 → Int32 → (Nat → Int32) → (Nat → Int32) → (Nat → Int32) → (Nat → Int32) → (Nat → Int32) → (Nat → Int32) → (Nat → Int32) → (Nat → Int32) → (Nat → Int32) → (Nat → Int32) → (Nat → Int32) → (Nat → Int32) → (Nat → Int32) → (Nat → Int32) → (Nat → Int32) → (Nat → Int32) → (Nat → Int32) → (Nat → Int32) → (Nat → Int32) → (Nat → Int32) → (Nat → Int32) → (Nat → Int32) → (Nat → Int32) → (Nat → Int32) → (Nat → Int32) → Prop} {hc sc lv cl kn vn oc : Int32} {a1 a2 a3 a4 a5 a6 a7 a8 a9 a10 a11 a12 a13 a14 a15 a16 a17 a18 a19 a20 a21 a22 a23 a24 a25 : Nat → Int32} {n kk mm : Nat} {v w x6 : Int32} (i : Nat) (r : le_R kk mm v w a10 a12 a13) (h : J (nI (i + 1)) hc sc lv cl kn vn oc a1 a2 a3 a4 a5 a6 a7 a8 a9 a10 a11 a12 a13 a14 a15 a16 a17 a18 a19 a20 a21 a22 a23 a24 a25) :
    wX_makeJoin_68 post J 1 15 0 0 (nI i) x6 (n + 1) (nI 2) hc sc lv cl kn vn oc a1 a2 a3 a4 a5 a6 a7 a8 a9 a10 a11 a12 a13 a14 a15 a16 a17 a18 a19 a20 a21 a22 a23 a24 a25 := by
  have x0 : 48 * (0 : Int32) + a10 (0 : Int32).toNatClampNeg = nI 2 := by
    show 48 * (0 : Int32) + a10 0 = nI 2
    rw [r.1]
    rfl
  exact ⟨pk_in 0 16 (by omega), pk_le 2 2 (fun _ => nm_r (nI_1 i) h) (fun z => absurd z (by omega)) (hx := x0)⟩
theorem le_j21 {post : Int32 → St2 → Prop} {hc sc lv cl kn vn oc : Int32} {a1 a2 a3 a4 a5 a6 a7 a8 a9 a10 a11 a12 a13 a14 a15 a16 a17 a18 a19 a20 a21 a22 a23 a24 a25 : Nat → Int32} {n kk mm : Nat} {v w : Int32} (i : Nat) (hi : i < 2) (hk : kk < 16) (hm : mm < 16) (r : le_R kk mm v w a10 a12 a13)
    (h : ∃ fu, wX_makeJoin_68 post (wX_makeJoin_21 post 1 15 0 0 n) 1 15 0 0 (nI i) (nI (le_key kk mm i % 4)) fu (nI 0) hc sc lv cl kn vn oc a1 a2 a3 a4 a5 a6 a7 a8 a9 a10 a11 a12 a13 a14 a15 a16 a17 a18 a19 a20 a21 a22 a23 a24 a25) : wX_makeJoin_21 post 1 15 0 0 (n + 1) (nI i) hc sc lv cl kn vn oc a1 a2 a3 a4 a5 a6 a7 a8 a9 a10 a11 a12 a13 a14 a15 a16 a17 a18 a19 a20 a21 a22 a23 a24 a25 := by
  have ei : (nI i).toNatClampNeg = i := nI_clamp (by omega)
  have li := le_key_lt hk hm i
  have x0 : 48 * (0 : Int32) + a10 (0 : Int32).toNatClampNeg = nI 2 := by
    show 48 * (0 : Int32) + a10 0 = nI 2
    rw [r.1]
    rfl
  have ai : a12 (nI i).toNatClampNeg &&& 3 = nI (le_key kk mm i % 4) := by rw [ei, (r.2 i hi).1]; exact le_and3 (by omega)
  exact ⟨pk_in 0 16 (by omega), pk_le 2 i (fun z => absurd z (by omega)) (fun _ => ⟨pk_in i 768 (by omega), nm_r ai (le_isPart (le_key kk mm i % 4) (by omega) (br_f (by decide) (nm_r (by rfl) h)))⟩) (hx := x0)⟩
theorem le_j21e {post : Int32 → St2 → Prop} {hc sc lv cl kn vn oc : Int32} {a1 a2 a3 a4 a5 a6 a7 a8 a9 a10 a11 a12 a13 a14 a15 a16 a17 a18 a19 a20 a21 a22 a23 a24 a25 : Nat → Int32} {n kk mm : Nat} {v w : Int32} (r : le_R kk mm v w a10 a12 a13) (h : post 1 (hc, sc, lv, cl, kn, vn, oc, a1, a2, a3, a4, a5, a6, a7, a8, a9, a10, a11, a12, a13, a14, a15, a16, a17, a18, a19, a20, a21, a22, a23, a24, a25)) : wX_makeJoin_21 post 1 15 0 0 (n + 1) (nI 2) hc sc lv cl kn vn oc a1 a2 a3 a4 a5 a6 a7 a8 a9 a10 a11 a12 a13 a14 a15 a16 a17 a18 a19 a20 a21 a22 a23 a24 a25 := by
  have x0 : 48 * (0 : Int32) + a10 (0 : Int32).toNatClampNeg = nI 2 := by
    show 48 * (0 : Int32) + a10 0 = nI 2
    rw [r.1]
    rfl
  exact ⟨pk_in 0 16 (by omega), pk_le 2 2 (fun _ => h) (fun z => absurd z (by omega)) (hx := x0)⟩
/-- what the join holds: how many, the keys, the values -/
def le_N (kk mm : Nat) : Nat := if kk = mm then 4 else 2
def le_K (kk mm : Nat) (j : Nat) : Nat := if kk = mm then kk else le_key kk mm j
def le_V (kk mm : Nat) (v w : Int32) (j : Nat) : Int32 := if kk = mm then le_val v w (j / 2) + le_val v w (j % 2) else le_val v w j + le_val v w j
theorem le_makeJoin {post : Int32 → St2 → Prop} {hc sc lv cl kn vn oc : Int32} {a1 a2 a3 a4 a5 a6 a7 a8 a9 a10 a11 a12 a13 a14 a15 a16 a17 a18 a19 a20 a21 a22 a23 a24 a25 : Nat → Int32} {kk mm : Nat} {v w : Int32} (hk : kk < 16) (hm : mm < 16) (f : le_F kk mm v w a3 a4 a5 a7 a8 a9 a15) (r : le_R kk mm v w a10 a12 a13) (h1 : a10 1 = 0) (h2 : a10 2 = 0)
    (H : ∀ b10 b11 b12 b13, le_J kk mm v w (le_K kk mm) (le_V kk mm v w) (le_N kk mm) b10 b11 b12 b13 → post 1 (hc, sc, lv, cl, kn, vn, oc, a1, a2, a3, a4, a5, a6, a7, a8, a9, b10, b11, b12, b13, a14, a15, a16, a17, a18, a19, a20, a21, a22, a23, a24, a25)) : wpX_makeJoin post (hc, sc, lv, cl, kn, vn, oc, a1, a2, a3, a4, a5, a6, a7, a8, a9, a10, a11, a12, a13, a14, a15, a16, a17, a18, a19, a20, a21, a22, a23, a24, a25) 1 15 := by
  refine ⟨pk_in 1 16 (by omega), nm_r f.2.1.1 ⟨pk_in 1 16 (by omega), nm_r f.2.2.1.1 (nm_r (by rfl) ⟨3, ?_⟩)⟩⟩
  have I0 : le_J kk mm v w (le_K kk mm) (le_V kk mm v w) 0 a10 a11 a12 a13 := ⟨r, h2, h1, lt_0⟩
  by_cases e : kk = mm
  · have eN : le_N kk mm = 4 := if_pos e
    rw [eN] at H
    have key : ∀ j, le_key kk mm j = kk := fun j => by unfold le_key; split <;> omega
    have eK : ∀ c i, le_K kk mm c = le_key kk mm i := fun c i => by rw [key i]; exact if_pos e
    have eV : ∀ c i j, c / 2 = i → c % 2 = j → le_V kk mm v w c = le_val v w i + le_val v w j := fun c i j h1 h2 => by subst h1 h2; exact if_pos e
    refine le_j21 0 (by omega) hk hm r ⟨3, le_j68 0 0 hk hm (by omega) (by omega) I0 (fun _ => ⟨by omega, eK 0 0, eV 0 0 0 rfl rfl, fun b10 b11 b12 b13 I1 => ?_⟩) (fun z => absurd ((key _).trans (key _).symm) z)⟩
    refine le_j68 0 1 hk hm (by omega) (by omega) I1 (fun _ => ⟨by omega, eK 1 0, eV 1 0 1 rfl rfl, fun b10 b11 b12 b13 I2 => ?_⟩) (fun z => absurd ((key _).trans (key _).symm) z)
    refine le_j68e 0 I2.1 (le_j21 1 (by omega) hk hm I2.1 ⟨3, le_j68 1 0 hk hm (by omega) (by omega) I2 (fun _ => ⟨by omega, eK 2 1, eV 2 1 0 rfl rfl, fun b10 b11 b12 b13 I3 => ?_⟩) (fun z => absurd ((key _).trans (key _).symm) z)⟩)
    refine le_j68 1 1 hk hm (by omega) (by omega) I3 (fun _ => ⟨by omega, eK 3 1, eV 3 1 1 rfl rfl, fun b10 b11 b12 b13 I4 => ?_⟩) (fun z => absurd ((key _).trans (key _).symm) z)
    exact le_j68e 1 I4.1 (le_j21e I4.1 (H _ _ _ _ I4))
  · have eN : le_N kk mm = 2 := if_neg e
    rw [eN] at H
    have k0 : le_key kk mm 0 = kk := rfl
    have k1 : le_key kk mm 1 = mm := rfl
    have eK : ∀ c, le_K kk mm c = le_key kk mm c := fun c => if_neg e
    have eV : ∀ c, le_V kk mm v w c = le_val v w c + le_val v w c := fun c => if_neg e
    refine le_j21 0 (by omega) hk hm r ⟨3, le_j68 0 0 hk hm (by omega) (by omega) I0 (fun _ => ⟨by omega, eK 0, eV 0, fun b10 b11 b12 b13 I1 => ?_⟩) (fun z => absurd rfl z)⟩
    refine le_j68 0 1 hk hm (by omega) (by omega) I1 (fun z => absurd z (by rw [k0, k1]; omega)) (fun _ => ?_)
    refine le_j68e 0 I1.1 (le_j21 1 (by omega) hk hm I1.1 ⟨3, le_j68 1 0 hk hm (by omega) (by omega) I1 (fun z => absurd z (by rw [k0, k1]; omega)) (fun _ => ?_)⟩)
    refine le_j68 1 1 hk hm (by omega) (by omega) I1 (fun _ => ⟨by omega, eK 1, eV 1, fun b10 b11 b12 b13 I2 => ?_⟩) (fun z => absurd rfl z)
    exact le_j68e 1 I2.1 (le_j21e I2.1 (H _ _ _ _ I2))
theorem le_mp1 {post : Int32 → St2 → Prop} {hc sc lv cl kn vn oc : Int32} {a1 a2 a3 a4 a5 a6 a7 a8 a9 a10 a11 a12 a13 a14 a15 a16 a17 a18 a19 a20 a21 a22 a23 a24 a25 : Nat → Int32} {kk mm : Nat} {v w : Int32} (hk : kk < 16) (hm : mm < 16) (f : le_F kk mm v w a3 a4 a5 a7 a8 a9 a15) (r : le_R kk mm v w a10 a12 a13) (h1 : a10 1 = 0) (h2 : a10 2 = 0) (h17 : a17 1 = 15)
    (H : ∀ b10 b11 b12 b13 b14, le_J kk mm v w (le_K kk mm) (le_V kk mm v w) (le_N kk mm) b10 b11 b12 b13 → post 1 (hc, sc, lv, cl, kn, vn, oc, a1, a2, a3, a4, a5, a6, a7, a8, a9, b10, b11, b12, b13, b14, a15, upd a16 1 1, a17, a18, a19, a20, a21, a22, a23, a24, a25)) : wpX_makeParts post (hc, sc, lv, cl, kn, vn, oc, a1, a2, a3, a4, a5, a6, a7, a8, a9, a10, a11, a12, a13, a14, a15, a16, a17, a18, a19, a20, a21, a22, a23, a24, a25) 1 :=
  ⟨pk_in 1 16 (by omega), nm_r f.1.2.1 ⟨pk_in 1 16 (by omega), nm_r h17 (br_f (by decide) (le_isStep (Or.inr (Or.inr rfl)) (br_t rfl (br_f (by decide) (br_f (by decide) (br_f (by decide) (br_t rfl (le_makeJoin hk hm f r h1 h2 (fun b10 b11 b12 b13 I => le_mp127 1 (by omega) (fun b14 => H b10 b11 b12 b13 b14 I))))))))))⟩⟩
end
section
/-! sums by key, pure -/
def le_hb (K : Nat → Nat) (κ : Nat) : Nat → Bool
  | 0 => false
  | n + 1 => le_hb K κ n || (K n == κ)
def le_sum (K : Nat → Nat) (V : Nat → Int32) (κ : Nat) : Nat → Int32
  | 0 => 0
  | n + 1 => if K n = κ then le_sum K V κ n + V n else le_sum K V κ n
theorem le_hb_ne {K : Nat → Nat} {κ n : Nat} (h : K n ≠ κ) : le_hb K κ (n + 1) = le_hb K κ n := by
  show (le_hb K κ n || (K n == κ)) = le_hb K κ n
  rw [beq_false_of_ne h, Bool.or_false]
theorem le_hb_eq {K : Nat → Nat} {n : Nat} : le_hb K (K n) (n + 1) = true := by
  show (le_hb K (K n) n || (K n == K n)) = true
  rw [beq_self_eq_true, Bool.or_true]
theorem le_sum_ne {K : Nat → Nat} {V : Nat → Int32} {κ n : Nat} (h : K n ≠ κ) : le_sum K V κ (n + 1) = le_sum K V κ n := if_neg h
theorem le_sum_eq {K : Nat → Nat} {V : Nat → Int32} {n : Nat} : le_sum K V (K n) (n + 1) = le_sum K V (K n) n + V n := if_pos rfl
theorem le_sum0 {K : Nat → Nat} {V : Nat → Int32} {κ : Nat} : ∀ n, le_hb K κ n = false → le_sum K V κ n = 0
  | 0, _ => rfl
  | n + 1, h => by
    by_cases e : K n = κ
    · subst e
      rw [le_hb_eq] at h
      exact absurd h (by decide)
    · rw [le_hb_ne e] at h
      rw [le_sum_ne e]
      exact le_sum0 n h
/-- the sums of one part -/
def le_L (K : Nat → Nat) (V : Nat → Int32) (P i : Nat) (s20 s21 : Nat → Int32) : Prop :=
  ∀ κ, κ < 16 → ((κ % 4 = P ∧ le_hb K κ i = true) ∧ s20 κ = 1 ∧ s21 κ = le_sum K V κ i) ∨ (¬ (κ % 4 = P ∧ le_hb K κ i = true) ∧ s20 κ = 0)
theorem le_L_0 {K : Nat → Nat} {V : Nat → Int32} {P : Nat} {s20 s21 : Nat → Int32} (h : ∀ κ, κ < 16 → s20 κ = 0) : le_L K V P 0 s20 s21 :=
  fun κ hκ => Or.inr ⟨fun z => absurd z.2 (by show ¬ false = true; decide), h κ hκ⟩
theorem le_L_skip {K : Nat → Nat} {V : Nat → Int32} {P i : Nat} {s20 s21 : Nat → Int32} (h : le_L K V P i s20 s21) (hne : ¬ K i % 4 = P) : le_L K V P (i + 1) s20 s21 := by
  intro κ hκ
  by_cases e : K i = κ
  · rcases h κ hκ with ⟨z, _, _⟩ | ⟨z, y⟩
    · exact absurd z.1 (by rw [← e]; exact hne)
    · exact Or.inr ⟨fun t => absurd t.1 (by rw [← e]; exact hne), y⟩
  · rw [le_hb_ne e, le_sum_ne e]
    exact h κ hκ
theorem le_L_add {K : Nat → Nat} {V : Nat → Int32} {P i : Nat} {s20 s21 : Nat → Int32} (h : le_L K V P i s20 s21) (he : K i % 4 = P) : le_L K V P (i + 1) (upd s20 (K i) 1) (upd s21 (K i) (le_sum K V (K i) (i + 1))) := by
  intro κ hκ
  by_cases e : K i = κ
  · subst e
    exact Or.inl ⟨⟨he, le_hb_eq⟩, pk_us, pk_us⟩
  · have e' : κ ≠ K i := fun z => e z.symm
    rw [le_hb_ne e, le_sum_ne e, pk_un e', pk_un e']
    exact h κ hκ
theorem le_L_val {K : Nat → Nat} {V : Nat → Int32} {P i : Nat} {s20 s21 : Nat → Int32} (h : le_L K V P i s20 s21) (hK : K i < 16) (he : K i % 4 = P) :
    (s20 (K i) = 0 → V i = le_sum K V (K i) (i + 1)) ∧ (¬ s20 (K i) = 0 → s21 (K i) + V i = le_sum K V (K i) (i + 1)) := by
  rw [le_sum_eq]
  rcases h (K i) hK with ⟨z, y, x⟩ | ⟨z, y⟩
  · refine ⟨fun t => ?_, fun _ => by rw [x]⟩
    rw [y] at t
    exact absurd t (by decide)
  · refine ⟨fun _ => ?_, fun t => absurd y t⟩
    have b : le_hb K (K i) i = false := by
      cases g : le_hb K (K i) i
      · rfl
      · exact absurd ⟨he, g⟩ z
    rw [le_sum0 i b, Int32.zero_add]
/-- the sums of all parts ahead of P, and of P as far as i -/
def le_M (K : Nat → Nat) (V : Nat → Int32) (N P i : Nat) (s22 s23 : Nat → Int32) : Prop :=
  ∀ κ, κ < 16 → (((κ % 4 < P ∨ (κ % 4 = P ∧ κ < i)) ∧ le_hb K κ N = true) ∧ s22 κ = 1 ∧ s23 κ = le_sum K V κ N) ∨ (¬ ((κ % 4 < P ∨ (κ % 4 = P ∧ κ < i)) ∧ le_hb K κ N = true) ∧ s22 κ = 0)
theorem le_M_0 {K : Nat → Nat} {V : Nat → Int32} {N : Nat} {s22 s23 : Nat → Int32} (h : ∀ κ, κ < 16 → s22 κ = 0) : le_M K V N 0 0 s22 s23 :=
  fun κ hκ => Or.inr ⟨fun z => absurd z.1 (by omega), h κ hκ⟩
theorem le_M_next {K : Nat → Nat} {V : Nat → Int32} {N P : Nat} {s22 s23 : Nat → Int32} (h : le_M K V N P 16 s22 s23) : le_M K V N (P + 1) 0 s22 s23 := by
  intro κ hκ
  rcases h κ hκ with ⟨z, y⟩ | ⟨z, y⟩
  · exact Or.inl ⟨⟨by omega, z.2⟩, y⟩
  · exact Or.inr ⟨fun t => z ⟨by omega, t.2⟩, y⟩
theorem le_M_skip {K : Nat → Nat} {V : Nat → Int32} {N P i : Nat} {s22 s23 : Nat → Int32} (h : le_M K V N P i s22 s23) (hn : ¬ (i % 4 = P ∧ le_hb K i N = true)) : le_M K V N P (i + 1) s22 s23 := by
  intro κ hκ
  rcases h κ hκ with ⟨z, y⟩ | ⟨z, y⟩
  · exact Or.inl ⟨⟨by omega, z.2⟩, y⟩
  · refine Or.inr ⟨fun t => ?_, y⟩
    by_cases e : κ = i
    · subst e
      by_cases g : κ % 4 = P
      · exact hn ⟨g, t.2⟩
      · exact z ⟨by omega, t.2⟩
    · exact z ⟨by omega, t.2⟩
theorem le_M_free {K : Nat → Nat} {V : Nat → Int32} {N P i : Nat} {s22 s23 : Nat → Int32} (h : le_M K V N P i s22 s23) (hi : i < 16) (hp : i % 4 = P) : s22 i = 0 := by
  rcases h i hi with ⟨z, y⟩ | ⟨z, y⟩
  · exact absurd z.1 (by omega)
  · exact y
theorem le_M_add {K : Nat → Nat} {V : Nat → Int32} {N P i : Nat} {s22 s23 : Nat → Int32} (h : le_M K V N P i s22 s23) (hp : i % 4 = P) (hb : le_hb K i N = true) {x : Int32} (hx : x = le_sum K V i N) : le_M K V N P (i + 1) (upd s22 i 1) (upd s23 i x) := by
  intro κ hκ
  by_cases e : κ = i
  · subst e
    exact Or.inl ⟨⟨by omega, hb⟩, pk_us, pk_us.trans hx⟩
  · rw [pk_un e, pk_un e]
    rcases h κ hκ with ⟨z, y⟩ | ⟨z, y⟩
    · exact Or.inl ⟨⟨by omega, z.2⟩, y⟩
    · exact Or.inr ⟨fun t => z ⟨by omega, t.2⟩, y⟩
/-- what a key adds up to over the first c pairs of data set 2 -/
def le_look (a12 a13 : Nat → Int32) (κ : Nat) : Nat → Int32
  | 0 => 0
  | c + 1 => if a12 (96 + c) = nI κ then le_look a12 a13 κ c + a13 (96 + c) else le_look a12 a13 κ c
theorem le_look_upd {a12 a13 : Nat → Int32} {κ c : Nat} {x y : Int32} : ∀ b, b ≤ c → le_look (upd a12 (48 * 2 + c) x) (upd a13 (48 * 2 + c) y) κ b = le_look a12 a13 κ b
  | 0, _ => rfl
  | b + 1, h => by
    have e : 96 + b ≠ 48 * 2 + c := by omega
    show (if upd a12 (48 * 2 + c) x (96 + b) = nI κ then le_look (upd a12 (48 * 2 + c) x) (upd a13 (48 * 2 + c) y) κ b + upd a13 (48 * 2 + c) y (96 + b) else le_look (upd a12 (48 * 2 + c) x) (upd a13 (48 * 2 + c) y) κ b) = (if a12 (96 + b) = nI κ then le_look a12 a13 κ b + a13 (96 + b) else le_look a12 a13 κ b)
    rw [pk_un e, pk_un e, le_look_upd b (by omega)]
theorem le_look_put {a12 a13 : Nat → Int32} {κ c : Nat} {x y : Int32} : le_look (upd a12 (48 * 2 + c) x) (upd a13 (48 * 2 + c) y) κ (c + 1) = if x = nI κ then le_look a12 a13 κ c + y else le_look a12 a13 κ c := by
  show (if upd a12 (48 * 2 + c) x (96 + c) = nI κ then le_look (upd a12 (48 * 2 + c) x) (upd a13 (48 * 2 + c) y) κ c + upd a13 (48 * 2 + c) y (96 + c) else le_look (upd a12 (48 * 2 + c) x) (upd a13 (48 * 2 + c) y) κ c) = _
  rw [le_look_upd c (Nat.le_refl c), show (96 + c) = 48 * 2 + c from rfl, pk_us, pk_us]
def le_Q (K : Nat → Nat) (V : Nat → Int32) (N κ i : Nat) (a10 a12 a13 : Nat → Int32) : Prop :=
  ∃ c, c ≤ i ∧ a10 2 = nI c ∧ le_look a12 a13 κ c = if κ < i then le_sum K V κ N else 0
theorem le_Q_skip {K : Nat → Nat} {V : Nat → Int32} {N κ i : Nat} {a10 a12 a13 : Nat → Int32} (h : le_Q K V N κ i a10 a12 a13) (hb : ¬ le_hb K i N = true) : le_Q K V N κ (i + 1) a10 a12 a13 := by
  obtain ⟨c, hc, h2, hl⟩ := h
  refine ⟨c, by omega, h2, ?_⟩
  rw [hl]
  by_cases e : κ = i
  · subst e
    rw [if_neg (by omega), if_pos (by omega)]
    exact (le_sum0 N (Bool.eq_false_iff.mpr hb)).symm
  · by_cases g : κ < i
    · rw [if_pos g, if_pos (by omega)]
    · rw [if_neg g, if_neg (by omega)]
theorem le_Q_add {K : Nat → Nat} {V : Nat → Int32} {N κ i c : Nat} {a10 a12 a13 : Nat → Int32} (hi : i < 16) (hκ : κ < 16) (hc : c ≤ i) (hl : le_look a12 a13 κ c = if κ < i then le_sum K V κ N else 0) :
    le_Q K V N κ (i + 1) (upd a10 2 (nI (c + 1))) (upd a12 (48 * 2 + c) (nI i)) (upd a13 (48 * 2 + c) (le_sum K V i N)) := by
  refine ⟨c + 1, by omega, pk_us, ?_⟩
  rw [le_look_put, hl]
  by_cases e : κ = i
  · subst e
    rw [if_pos rfl, if_neg (by omega), if_pos (by omega), Int32.zero_add]
  · rw [if_neg (fun z => e ((nI_eq (by omega) (by omega)).mp z).symm)]
    by_cases g : κ < i
    · rw [if_pos g, if_pos (by omega)]
    · rw [if_neg g, if_neg (by omega)]
end
section
/-! the walk of makeSums -/
theorem le_addLocal {post : St2 → Prop} {hc sc lv cl kn vn oc : Int32} {a1 a2 a3 a4 a5 a6 a7 a8 a9 a10 a11 a12 a13 a14 a15 a16 a17 a18 a19 a20 a21 a22 a23 a24 a25 : Nat → Int32} {p0 p1 : Int32} (κ : Nat) (hκ : κ < 16) (y : Int32) (hy : (a20 κ = 0 → p1 = y) ∧ (¬ a20 κ = 0 → a21 κ + p1 = y)) (h : post (hc, sc, lv, cl, kn, vn, oc, a1, a2, a3, a4, a5, a6, a7, a8, a9, a10, a11, a12, a13, a14, a15, a16, a17, a18, a19, upd a20 κ 1, upd a21 κ y, a22, a23, a24, a25)) (hp0 : p0 = nI κ := by rfl) : wpX_addLocal post (hc, sc, lv, cl, kn, vn, oc, a1, a2, a3, a4, a5, a6, a7, a8, a9, a10, a11, a12, a13, a14, a15, a16, a17, a18, a19, a20, a21, a22, a23, a24, a25) p0 p1 0 := by
  subst hp0
  have e : (nI κ).toNatClampNeg = κ := nI_clamp (by omega)
  refine ⟨pk_in κ 16 hκ, br_c (fun z => ⟨pk_in κ 16 hκ, nm_r (by rw [e, hy.1 (by rw [e] at z; exact z)]) ⟨pk_in κ 16 hκ, nm_r (by rw [e]) h⟩⟩) (fun z => ⟨pk_in κ 16 hκ, ?_⟩)⟩
  exact br_f (by decide) (br_f (by decide) ⟨pk_in κ 16 hκ, nm_r (by rw [e, hy.2 (by rw [e] at z; exact z)]) ⟨pk_in κ 16 hκ, nm_r (by rw [e]) h⟩⟩)
theorem le_addSum {post : St2 → Prop} {hc sc lv cl kn vn oc : Int32} {a1 a2 a3 a4 a5 a6 a7 a8 a9 a10 a11 a12 a13 a14 a15 a16 a17 a18 a19 a20 a21 a22 a23 a24 a25 : Nat → Int32} {p0 p1 : Int32} (κ : Nat) (hκ : κ < 16) (h22 : a22 κ = 0) (h : post (hc, sc, lv, cl, kn, vn, oc, a1, a2, a3, a4, a5, a6, a7, a8, a9, a10, a11, a12, a13, a14, a15, a16, a17, a18, a19, a20, a21, upd a22 κ 1, upd a23 κ (a21 κ), a24, a25)) (hp0 : p0 = nI κ := by rfl) : wpX_addSum post (hc, sc, lv, cl, kn, vn, oc, a1, a2, a3, a4, a5, a6, a7, a8, a9, a10, a11, a12, a13, a14, a15, a16, a17, a18, a19, a20, a21, a22, a23, a24, a25) p0 p1 := by
  subst hp0
  have e : (nI κ).toNatClampNeg = κ := nI_clamp (by omega)
  exact ⟨pk_in κ 16 hκ, br_t (by rw [e]; exact h22) ⟨pk_in κ 16 hκ, pk_in κ 16 hκ, nm_r (by rw [e]) ⟨pk_in κ 16 hκ, nm_r (by rw [e]) h⟩⟩⟩
theorem le_ms207 {post : St2 → Prop} {hc sc lv cl kn vn oc : Int32} {a1 a2 a3 a4 a5 a6 a7 a8 a9 a10 a11 a12 a13 a14 a15 a16 a17 a18 a19 a20 a21 a22 a23 a24 a25 : Nat → Int32} {K : Nat → Nat} {V : Nat → Int32} {N κ : Nat} (hκ : κ < 16) (hM : le_M K V N 4 0 a22 a23) (h10 : a10 2 = 0)
    (H : ∀ b10 b11 b12 b13, le_Q K V N κ 16 b10 b12 b13 → post (hc, sc, lv, cl, kn, vn, oc, a1, a2, a3, a4, a5, a6, a7, a8, a9, b10, b11, b12, b13, a14, a15, a16, a17, a18, a19, a20, a21, a22, a23, a24, a25)) : ∃ fu, wX_makeSums_207 post 2 15 fu 0 hc sc lv cl kn vn oc a1 a2 a3 a4 a5 a6 a7 a8 a9 a10 a11 a12 a13 a14 a15 a16 a17 a18 a19 a20 a21 a22 a23 a24 a25 :=
  pk_loop (σ := (Nat → Int32) × (Nat → Int32) × (Nat → Int32) × (Nat → Int32)) (fun n i s => wX_makeSums_207 post 2 15 n (nI i) hc sc lv cl kn vn oc a1 a2 a3 a4 a5 a6 a7 a8 a9 s.1 s.2.1 s.2.2.1 s.2.2.2 a14 a15 a16 a17 a18 a19 a20 a21 a22 a23 a24 a25) (fun i s => le_Q K V N κ i s.1 s.2.2.1 s.2.2.2) 16 0 (a10, a11, a12, a13) (by omega) ⟨0, by omega, h10, rfl⟩
    (fun n s h => pk_le 16 16 (fun _ => H s.1 s.2.1 s.2.2.1 s.2.2.2 h) (fun z => absurd z (by omega)))
    (fun n i s hi h hw => by
      have e : (nI i).toNatClampNeg = i := nI_clamp (by omega)
      refine pk_le 16 i (fun z => absurd z (by omega)) (fun _ => ⟨pk_in i 16 hi, ?_⟩)
      rcases hM i hi with ⟨z, y, x⟩ | ⟨z, y⟩
      · obtain ⟨c, hc, h2, hl⟩ := h
        have ne : ¬ a22 (nI i).toNatClampNeg = 0 := by
          rw [e, y]
          decide
        have e23 : a23 (nI i).toNatClampNeg = le_sum K V i N := by rw [e, x]
        refine br_f ne (le_isPart (i % 4) (by omega) (br_f (by decide) ⟨pk_in i 16 hi, ?_⟩) (hp := le_and3 (by omega)))
        exact le_addPair 2 c (i % 4) i (le_sum K V i N) (by omega) (by omega) (by omega) hi h2 (nm_r (nI_1 i) (hw (_, _, _, _) (le_Q_add hi hκ hc hl))) (hp1 := le_and3 (by omega)) (hp3 := e23)
      · exact br_t (by rw [e]; exact y) (nm_r (nI_1 i) (hw s (le_Q_skip h (fun t => z ⟨by omega, t⟩)))))
theorem le_ms167 {post : St2 → Prop} {J : Int32 → Int32 → Int32 → Int32 → Int32 → Int32 → Int32 → Int32 → (Nat → Int32) → (Nat → Int32) → (Nat → Int32) → (Nat → Int32) → (Nat → Int32) → (Nat → Int32) → (Nat → Int32) → (Nat → Int32) → (Nat → Int32) → (Nat → Int32) → (Nat → Int32) → (Nat → Int32) → (Nat → Int32) → (Nat → Int32) → (Nat → Int32) → (Nat → Int32) → (Nat → Int32) → (Nat → Int32) → (Nat → Int32) → (Nat → Int32) → (Nat → Int32) → (Nat → Int32) → (Nat → Int32) → (Nat → Int32) → (Nat → Int32) → Prop} {hc sc lv cl kn vn oc : Int32} {a1 a2 a3 a4 a5 a6 a7 a8 a9 a10 a11 a12 a13 a14 a15 a16 a17 a18 a19 a20 a21 a22 a23 a24 a25 : Nat → Int32} {x1 x2 x3 x5 : Int32} {K : Nat → Nat} {V : Nat → Int32} {N P : Nat} (hL : le_L K V P N a20 a21) (hM : le_M K V N P 0 a22 a23)
    (H : ∀ b22 b23, le_M K V N (P + 1) 0 b22 b23 → J (nI (P + 1)) hc sc lv cl kn vn oc a1 a2 a3 a4 a5 a6 a7 a8 a9 a10 a11 a12 a13 a14 a15 a16 a17 a18 a19 a20 a21 b22 b23 a24 a25) : ∃ fu, wX_makeSums_167 post J x1 x2 x3 0 x5 (nI P) fu 0 hc sc lv cl kn vn oc a1 a2 a3 a4 a5 a6 a7 a8 a9 a10 a11 a12 a13 a14 a15 a16 a17 a18 a19 a20 a21 a22 a23 a24 a25 :=
  pk_loop (σ := (Nat → Int32) × (Nat → Int32)) (fun n i s => wX_makeSums_167 post J x1 x2 x3 0 x5 (nI P) n (nI i) hc sc lv cl kn vn oc a1 a2 a3 a4 a5 a6 a7 a8 a9 a10 a11 a12 a13 a14 a15 a16 a17 a18 a19 a20 a21 s.1 s.2 a24 a25) (fun i s => le_M K V N P i s.1 s.2) 16 0 (a22, a23) (by omega) hM
    (fun n s h => pk_le 16 16 (fun _ => nm_r (nI_1 P) (H s.1 s.2 (le_M_next h))) (fun z => absurd z (by omega)))
    (fun n i s hi h hw => by
      have e : (nI i).toNatClampNeg = i := nI_clamp (by omega)
      refine pk_le 16 i (fun z => absurd z (by omega)) (fun _ => ⟨pk_in i 16 hi, ?_⟩)
      rcases hL i hi with ⟨z, y, x⟩ | ⟨z, y⟩
      · have ne : ¬ a20 (nI i).toNatClampNeg = 0 := by
          rw [e, y]
          decide
        exact br_f ne (le_addSum i hi (le_M_free h hi z.1) (nm_r (nI_1 i) (hw (_, _) (le_M_add h z.1 z.2 x))))
      · exact br_t (by rw [e]; exact y) (nm_r (nI_1 i) (hw s (le_M_skip h z))))
theorem le_ms94 {post : St2 → Prop} {J : Int32 → Int32 → Int32 → Int32 → Int32 → Int32 → Int32 → Int32 → (Nat → Int32) → (Nat → Int32) → (Nat → Int32) → (Nat → Int32) → (Nat → Int32) → (Nat → Int32) → (Nat → Int32) → (Nat → Int32) → (Nat → Int32) → (Nat → Int32) → (Nat → Int32) → (Nat → Int32) → (Nat → Int32) → (Nat → Int32) → (Nat → Int32) → (Nat → Int32) → (Nat → Int32) → (Nat → Int32) → (Nat → Int32) → (Nat → Int32) → (Nat → Int32) → (Nat → Int32) → (Nat → Int32) → (Nat → Int32) → (Nat → Int32) → Prop} {hc sc lv cl kn vn oc : Int32} {a1 a2 a3 a4 a5 a6 a7 a8 a9 a10 a11 a12 a13 a14 a15 a16 a17 a18 a19 a20 a21 a22 a23 a24 a25 : Nat → Int32} {K : Nat → Nat} {V : Nat → Int32} {N P : Nat} (hN : N ≤ 48) (hP : P < 4) (hK : ∀ j, K j < 16) (hT : le_T K V N a10 a11 a12 a13) (h0 : ∀ κ, κ < 16 → a20 κ = 0) (hM : le_M K V N P 0 a22 a23)
    (H : ∀ b20 b21 b22 b23, le_M K V N (P + 1) 0 b22 b23 → J (nI (P + 1)) hc sc lv cl kn vn oc a1 a2 a3 a4 a5 a6 a7 a8 a9 a10 a11 a12 a13 a14 a15 a16 a17 a18 a19 b20 b21 b22 b23 a24 a25) : ∃ fu, wX_makeSums_94 post J 2 15 1 0 4 (nI P) fu (nI 48) hc sc lv cl kn vn oc a1 a2 a3 a4 a5 a6 a7 a8 a9 a10 a11 a12 a13 a14 a15 a16 a17 a18 a19 a20 a21 a22 a23 a24 a25 := by
  have x0 : 48 * (1 : Int32) + a10 (1 : Int32).toNatClampNeg = nI (48 + N) := by
    show 48 * (nI 1) + a10 1 = nI (48 + N)
    rw [hT.1, le_48]
  exact pk_loop (σ := (Nat → Int32) × (Nat → Int32)) (fun n i s => wX_makeSums_94 post J 2 15 1 0 4 (nI P) n (nI (48 + i)) hc sc lv cl kn vn oc a1 a2 a3 a4 a5 a6 a7 a8 a9 a10 a11 a12 a13 a14 a15 a16 a17 a18 a19 s.1 s.2 a22 a23 a24 a25) (fun i s => le_L K V P i s.1 s.2) N 0 (a20, a21) (by omega) (le_L_0 h0)
    (fun n s h => ⟨pk_in 1 16 (by omega), pk_le (48 + N) (48 + N) (fun _ => le_ms167 h hM (fun b22 b23 m => H s.1 s.2 b22 b23 m)) (fun z => absurd z (by omega)) (hx := x0)⟩)
    (fun n i s hi h hw => by
      have e : (nI (48 + i)).toNatClampNeg = 48 + i := nI_clamp (by omega)
      obtain ⟨t11, t12, t13⟩ := hT.2 i hi
      have e11 : a11 (nI (48 + i)).toNatClampNeg = nI (K i % 4) := by rw [e, t11]
      have e12 : a12 (nI (48 + i)).toNatClampNeg = nI (K i) := by rw [e, t12]
      have e13 : a13 (nI (48 + i)).toNatClampNeg = V i := by rw [e, t13]
      have hKi := hK i
      refine ⟨pk_in 1 16 (by omega), pk_le (48 + N) (48 + i) (fun z => absurd z (by omega)) (fun _ => br_f (by decide) ⟨pk_in (48 + i) 768 (by omega), pk_eq (K i % 4) P (fun z => ?_) (fun z => nm_r (nI_1 (48 + i)) (hw s (le_L_skip h z))) (hx := e11)⟩) (hx := x0)⟩
      refine ⟨pk_in (48 + i) 768 (by omega), br_f (by decide) ⟨pk_in (48 + i) 768 (by omega), ?_⟩⟩
      refine le_addLocal (K i) hKi (le_sum K V (K i) (i + 1)) ?_ (nm_r (nI_1 (48 + i)) (hw (_, _) (le_L_add h z))) (hp0 := e12)
      rw [e13]
      exact le_L_val h hKi z)
theorem le_ms67 {post : St2 → Prop} {J : Int32 → Int32 → Int32 → Int32 → Int32 → Int32 → Int32 → Int32 → (Nat → Int32) → (Nat → Int32) → (Nat → Int32) → (Nat → Int32) → (Nat → Int32) → (Nat → Int32) → (Nat → Int32) → (Nat → Int32) → (Nat → Int32) → (Nat → Int32) → (Nat → Int32) → (Nat → Int32) → (Nat → Int32) → (Nat → Int32) → (Nat → Int32) → (Nat → Int32) → (Nat → Int32) → (Nat → Int32) → (Nat → Int32) → (Nat → Int32) → (Nat → Int32) → (Nat → Int32) → (Nat → Int32) → (Nat → Int32) → (Nat → Int32) → Prop} {hc sc lv cl kn vn oc : Int32} {a1 a2 a3 a4 a5 a6 a7 a8 a9 a10 a11 a12 a13 a14 a15 a16 a17 a18 a19 a20 a21 a22 a23 a24 a25 : Nat → Int32} {K : Nat → Nat} {V : Nat → Int32} {N P : Nat} (hN : N ≤ 48) (hP : P < 4) (hK : ∀ j, K j < 16) (hT : le_T K V N a10 a11 a12 a13) (hM : le_M K V N P 0 a22 a23)
    (H : ∀ b20 b21 b22 b23, le_M K V N (P + 1) 0 b22 b23 → J (nI (P + 1)) hc sc lv cl kn vn oc a1 a2 a3 a4 a5 a6 a7 a8 a9 a10 a11 a12 a13 a14 a15 a16 a17 a18 a19 b20 b21 b22 b23 a24 a25) : ∃ fu, wX_makeSums_67 post J 2 15 1 0 4 (nI P) hc sc lv cl kn vn oc fu 0 a1 a2 a3 a4 a5 a6 a7 a8 a9 a10 a11 a12 a13 a14 a15 a16 a17 a18 a19 a20 a21 a22 a23 a24 a25 :=
  pk_loop (σ := Nat → Int32) (fun n i s => wX_makeSums_67 post J 2 15 1 0 4 (nI P) hc sc lv cl kn vn oc n (nI i) a1 a2 a3 a4 a5 a6 a7 a8 a9 a10 a11 a12 a13 a14 a15 a16 a17 a18 a19 s a21 a22 a23 a24 a25) (fun i s => ∀ κ, κ < i → s κ = 0) 16 0 a20 (by omega) lt_0
    (fun n s h => pk_le 16 16 (fun _ => nm_r (by rfl) (le_ms94 hN hP hK hT h hM H)) (fun z => absurd z (by omega)))
    (fun n i s hi h hw => pk_le 16 i (fun z => absurd z (by omega)) (fun _ => ⟨pk_in i 16 hi, nm_r (by rw [nI_clamp (show i < 2 ^ 31 by omega)]) (nm_r (nI_1 i) (hw (upd s i 0) (fun κ hκ => by
      by_cases g : κ = i
      · subst g
        exact pk_us
      · exact (pk_un g).trans (h κ (by omega)))))⟩))
theorem le_ms57 {post : St2 → Prop} {hc sc lv cl kn vn oc : Int32} {a1 a2 a3 a4 a5 a6 a7 a8 a9 a10 a11 a12 a13 a14 a15 a16 a17 a18 a19 a20 a21 a22 a23 a24 a25 : Nat → Int32} {K : Nat → Nat} {V : Nat → Int32} {N κ : Nat} (hN : N ≤ 48) (hκ : κ < 16) (hK : ∀ j, K j < 16) (hT : le_T K V N a10 a11 a12 a13) (h10 : a10 2 = 0) (h22 : ∀ κ, κ < 16 → a22 κ = 0)
    (H : ∀ b10 b11 b12 b13 b20 b21 b22 b23, le_Q K V N κ 16 b10 b12 b13 → post (hc, sc, lv, cl, kn, vn, oc, a1, a2, a3, a4, a5, a6, a7, a8, a9, b10, b11, b12, b13, a14, a15, a16, a17, a18, a19, b20, b21, b22, b23, a24, a25)) : ∃ fu, wX_makeSums_57 post 2 15 1 0 4 fu 0 hc sc lv cl kn vn oc a1 a2 a3 a4 a5 a6 a7 a8 a9 a10 a11 a12 a13 a14 a15 a16 a17 a18 a19 a20 a21 a22 a23 a24 a25 :=
  pk_loop (σ := (Nat → Int32) × (Nat → Int32) × (Nat → Int32) × (Nat → Int32)) (fun n i s => wX_makeSums_57 post 2 15 1 0 4 n (nI i) hc sc lv cl kn vn oc a1 a2 a3 a4 a5 a6 a7 a8 a9 a10 a11 a12 a13 a14 a15 a16 a17 a18 a19 s.1 s.2.1 s.2.2.1 s.2.2.2 a24 a25) (fun i s => le_M K V N i 0 s.2.2.1 s.2.2.2) 4 0 (a20, a21, a22, a23) (by omega) (le_M_0 h22)
    (fun n s h => pk_le 4 4 (fun _ => le_ms207 hκ h h10 (fun b10 b11 b12 b13 q => H b10 b11 b12 b13 _ _ _ _ q)) (fun z => absurd z (by omega)))
    (fun n i s hi h hw => pk_le 4 i (fun z => absurd z (by omega)) (fun _ => le_ms67 hN hi hK hT h (fun b20 b21 b22 b23 m => hw (b20, b21, b22, b23) m)))
theorem le_makeSums {post : St2 → Prop} {hc sc cl kn vn oc : Int32} {a1 a2 a3 a4 a5 a6 a7 a8 a9 a10 a11 a12 a13 a14 a15 a16 a17 a18 a19 a20 a21 a22 a23 a24 a25 : Nat → Int32} {kk mm : Nat} {v w : Int32} {K : Nat → Nat} {V : Nat → Int32} {N κ : Nat} (f : le_F kk mm v w a3 a4 a5 a7 a8 a9 a15) (hN : N ≤ 48) (hκ : κ < 16) (hK : ∀ j, K j < 16) (hT : le_T K V N a10 a11 a12 a13) (h10 : a10 2 = 0)
    (H : ∀ b10 b11 b12 b13 b20 b21 b22 b23, le_Q K V N κ 16 b10 b12 b13 → post (hc, sc, 2, cl, kn, vn, oc, a1, a2, a3, a4, a5, a6, a7, a8, a9, b10, b11, b12, b13, a14, a15, a16, a17, a18, a19, b20, b21, b22, b23, a24, a25)) : wpX_makeSums post (hc, sc, 2, cl, kn, vn, oc, a1, a2, a3, a4, a5, a6, a7, a8, a9, a10, a11, a12, a13, a14, a15, a16, a17, a18, a19, a20, a21, a22, a23, a24, a25) 2 15 :=
  ⟨pk_in 2 16 (by omega), nm_r f.2.1.2 ⟨pk_in 2 16 (by omega), nm_r f.2.2.1.2
    (pk_loop (σ := Nat → Int32) (fun n i s => wX_makeSums_18 post 2 15 1 0 hc sc 2 cl kn vn oc n (nI i) a1 a2 a3 a4 a5 a6 a7 a8 a9 a10 a11 a12 a13 a14 a15 a16 a17 a18 a19 a20 a21 s a23 a24 a25) (fun i s => ∀ κ, κ < i → s κ = 0) 16 0 a22 (by omega) lt_0
      (fun n s h => pk_le 16 16 (fun _ => br_t rfl (le_ms57 hN hκ hK hT h10 h H)) (fun z => absurd z (by omega)))
      (fun n i s hi h hw => pk_le 16 i (fun z => absurd z (by omega)) (fun _ => ⟨pk_in i 16 hi, nm_r (by rw [nI_clamp (show i < 2 ^ 31 by omega)]) (nm_r (nI_1 i) (hw (upd s i 0) (fun κ hκ => by
        by_cases g : κ = i
        · subst g
          exact pk_us
        · exact (pk_un g).trans (h κ (by omega)))))⟩)))⟩⟩
theorem le_mp2 {post : Int32 → St2 → Prop} {hc sc cl kn vn oc : Int32} {a1 a2 a3 a4 a5 a6 a7 a8 a9 a10 a11 a12 a13 a14 a15 a16 a17 a18 a19 a20 a21 a22 a23 a24 a25 : Nat → Int32} {kk mm : Nat} {v w : Int32} {K : Nat → Nat} {V : Nat → Int32} {N κ : Nat} (f : le_F kk mm v w a3 a4 a5 a7 a8 a9 a15) (hN : N ≤ 48) (hκ : κ < 16) (hK : ∀ j, K j < 16) (hT : le_T K V N a10 a11 a12 a13) (h10 : a10 2 = 0) (h17 : a17 2 = 15)
    (H : ∀ b10 b11 b12 b13 b14 b20 b21 b22 b23, le_Q K V N κ 16 b10 b12 b13 → post 1 (hc, sc, 2, cl, kn, vn, oc, a1, a2, a3, a4, a5, a6, a7, a8, a9, b10, b11, b12, b13, b14, a15, upd a16 2 1, a17, a18, a19, b20, b21, b22, b23, a24, a25)) : wpX_makeParts post (hc, sc, 2, cl, kn, vn, oc, a1, a2, a3, a4, a5, a6, a7, a8, a9, a10, a11, a12, a13, a14, a15, a16, a17, a18, a19, a20, a21, a22, a23, a24, a25) 2 :=
  ⟨pk_in 2 16 (by omega), nm_r f.1.2.2 ⟨pk_in 2 16 (by omega), nm_r h17 (br_f (by decide) (le_isStep (Or.inr (Or.inl rfl)) (br_t rfl (br_f (by decide) (br_f (by decide) (br_t rfl (le_makeSums f hN hκ hK hT h10 (fun b10 b11 b12 b13 b20 b21 b22 b23 q => le_mp127 2 (by omega) (fun b14 => H b10 b11 b12 b13 b14 b20 b21 b22 b23 q)))))))))⟩⟩
end
section
/-! working out -/
theorem le_wo {post : Int32 → St2 → Prop} {hc sc lv cl kn vn oc : Int32} {a1 a2 a3 a4 a5 a6 a7 a8 a9 a10 a11 a12 a13 a14 a15 a16 a17 a18 a19 a20 a21 a22 a23 a24 a25 : Nat → Int32} {n : Nat} {p : Int32} (d i : Nat) (hi : i ≤ d) (hd : d < 16) (h17 : a17 i = 15) (h3 : a3 i = 0 ∨ a3 i = 6 ∨ a3 i = 7)
    (h : ∀ Q : Int32 → St2 → Prop, (∀ (hc sc lv cl kn vn oc : Int32) (a1 a2 a3 a4 a5 a6 a7 a8 a9 a10 a11 a12 a13 a14 a15 a16 a17 a18 a19 a20 a21 a22 a23 a24 a25 : Nat → Int32), wX_workOut_19 post p n (nI (i + 1)) hc sc lv cl kn vn oc a1 a2 a3 a4 a5 a6 a7 a8 a9 a10 a11 a12 a13 a14 a15 a16 a17 a18 a19 a20 a21 a22 a23 a24 a25 → Q 1 (hc, sc, lv, cl, kn, vn, oc, a1, a2, a3, a4, a5, a6, a7, a8, a9, a10, a11, a12, a13, a14, a15, a16, a17, a18, a19, a20, a21, a22, a23, a24, a25)) → wpX_makeParts Q (hc, sc, lv, cl, kn, vn, oc, a1, a2, a3, a4, a5, a6, a7, a8, a9, a10, a11, a12, a13, a14, a15, a16, a17, a18, a19, a20, a21, a22, a23, a24, a25) (nI i)) (hp : p = nI d := by rfl) : wX_workOut_19 post p (n + 1) (nI i) hc sc lv cl kn vn oc a1 a2 a3 a4 a5 a6 a7 a8 a9 a10 a11 a12 a13 a14 a15 a16 a17 a18 a19 a20 a21 a22 a23 a24 a25 := by
  subst hp
  have e : (nI i).toNatClampNeg = i := nI_clamp (by omega)
  have ne : ¬ a17 (nI i).toNatClampNeg = 0 := by
    rw [e, h17]
    decide
  exact pk_lt d i (fun z => absurd z (by omega)) (fun _ => ⟨pk_in i 16 (by omega), br_f ne (le_passed i (by omega) h3 (br_t rfl (h _ (fun _ _ _ _ _ _ _ _ _ _ _ _ _ _ _ _ _ _ _ _ _ _ _ _ _ _ _ _ _ _ _ _ q => br_f (by decide) (nm_r (nI_1 i) q)))))⟩)
theorem le_16 {a : Nat → Int32} (h : ∀ d, d < 3 → ¬ a d = 2) (i : Nat) : ∀ d, d < 3 → ¬ upd a i 1 d = 2 := by
  intro d hd
  by_cases e : d = i
  · subst e
    rw [pk_us]
    decide
  · rw [pk_un e]
    exact h d hd
theorem le_work0 {post : Int32 → St2 → Prop} {hc sc lv cl kn vn oc : Int32} {a1 a2 a3 a4 a5 a6 a7 a8 a9 a10 a11 a12 a13 a14 a15 a16 a17 a18 a19 a20 a21 a22 a23 a24 a25 : Nat → Int32} {kk mm : Nat} {v w : Int32} (hk : kk < 16) (hm : mm < 16) (f : le_F kk mm v w a3 a4 a5 a7 a8 a9 a15) (g : le_G a10 a14 a16)
    (H : ∀ b10 b11 b12 b13 b14 b16 b17 b18, le_R kk mm v w b10 b12 b13 → (∀ d, d < 3 → ¬ b16 d = 2) → post 1 (hc, sc, lv, cl, kn, vn, oc, a1, a2, a3, a4, a5, a6, a7, a8, a9, b10, b11, b12, b13, b14, a15, b16, b17, b18, a19, a20, a21, a22, a23, a24, a25)) : wpX_workOut post (hc, sc, lv, cl, kn, vn, oc, a1, a2, a3, a4, a5, a6, a7, a8, a9, a10, a11, a12, a13, a14, a15, a16, a17, a18, a19, a20, a21, a22, a23, a24, a25) 0 := by
  obtain ⟨g10, g14, g16⟩ := g
  refine ⟨pk_in 0 16 (by omega), br_f (g16 0 (by omega)) (le_find0 f g14 (fun b17 b18 n0 => ⟨2, ?_⟩))⟩
  refine le_wo 0 0 (by omega) (by omega) n0 (Or.inl f.1.1) (fun Q hQ => le_mp0 hk hm f g10 n0 (fun b10 b11 b12 b13 b14 r e1 e2 => hQ _ _ _ _ _ _ _ _ _ _ _ _ _ _ _ _ _ _ _ _ _ _ _ _ _ _ _ _ _ _ _ _ ?_))
  exact pk_lt 0 1 (fun _ => H _ _ _ _ _ _ _ _ r (le_16 g16 0)) (fun z => absurd z (by omega))
theorem le_work1 {post : Int32 → St2 → Prop} {hc sc lv cl kn vn oc : Int32} {a1 a2 a3 a4 a5 a6 a7 a8 a9 a10 a11 a12 a13 a14 a15 a16 a17 a18 a19 a20 a21 a22 a23 a24 a25 : Nat → Int32} {kk mm : Nat} {v w : Int32} (hk : kk < 16) (hm : mm < 16) (f : le_F kk mm v w a3 a4 a5 a7 a8 a9 a15) (g : le_G a10 a14 a16)
    (H : ∀ b10 b11 b12 b13 b14 b16 b17 b18, le_J kk mm v w (le_K kk mm) (le_V kk mm v w) (le_N kk mm) b10 b11 b12 b13 → (∀ d, d < 3 → ¬ b16 d = 2) → post 1 (hc, sc, lv, cl, kn, vn, oc, a1, a2, a3, a4, a5, a6, a7, a8, a9, b10, b11, b12, b13, b14, a15, b16, b17, b18, a19, a20, a21, a22, a23, a24, a25)) : wpX_workOut post (hc, sc, lv, cl, kn, vn, oc, a1, a2, a3, a4, a5, a6, a7, a8, a9, a10, a11, a12, a13, a14, a15, a16, a17, a18, a19, a20, a21, a22, a23, a24, a25) 1 := by
  obtain ⟨g10, g14, g16⟩ := g
  refine ⟨pk_in 1 16 (by omega), br_f (g16 1 (by omega)) (le_find1 f g14 (fun b17 b18 n0 n1 => ⟨3, ?_⟩))⟩
  refine le_wo 1 0 (by omega) (by omega) n0 (Or.inl f.1.1) (fun Q hQ => le_mp0 hk hm f g10 n0 (fun b10 b11 b12 b13 b14 r e1 e2 => hQ _ _ _ _ _ _ _ _ _ _ _ _ _ _ _ _ _ _ _ _ _ _ _ _ _ _ _ _ _ _ _ _ ?_))
  refine le_wo 1 1 (by omega) (by omega) n1 (Or.inr (Or.inr f.1.2.1)) (fun Q hQ => le_mp1 hk hm f r e1 e2 n1 (fun c10 c11 c12 c13 c14 I => hQ _ _ _ _ _ _ _ _ _ _ _ _ _ _ _ _ _ _ _ _ _ _ _ _ _ _ _ _ _ _ _ _ ?_))
  exact pk_lt 1 2 (fun _ => H _ _ _ _ _ _ _ _ I (le_16 (le_16 g16 0) 1)) (fun z => absurd z (by omega))
theorem le_work2 {post : Int32 → St2 → Prop} {hc sc cl kn vn oc : Int32} {a1 a2 a3 a4 a5 a6 a7 a8 a9 a10 a11 a12 a13 a14 a15 a16 a17 a18 a19 a20 a21 a22 a23 a24 a25 : Nat → Int32} {kk mm : Nat} {v w : Int32} {κ : Nat} (hk : kk < 16) (hm : mm < 16) (hκ : κ < 16) (f : le_F kk mm v w a3 a4 a5 a7 a8 a9 a15) (g : le_G a10 a14 a16)
    (H : ∀ b10 b11 b12 b13 b14 b16 b17 b18 b20 b21 b22 b23, le_Q (le_K kk mm) (le_V kk mm v w) (le_N kk mm) κ 16 b10 b12 b13 → (∀ d, d < 3 → ¬ b16 d = 2) → post 1 (hc, sc, 2, cl, kn, vn, oc, a1, a2, a3, a4, a5, a6, a7, a8, a9, b10, b11, b12, b13, b14, a15, b16, b17, b18, a19, b20, b21, b22, b23, a24, a25)) : wpX_workOut post (hc, sc, 2, cl, kn, vn, oc, a1, a2, a3, a4, a5, a6, a7, a8, a9, a10, a11, a12, a13, a14, a15, a16, a17, a18, a19, a20, a21, a22, a23, a24, a25) 2 := by
  obtain ⟨g10, g14, g16⟩ := g
  have hN : le_N kk mm ≤ 48 := by
    unfold le_N
    split <;> omega
  have hK : ∀ j, le_K kk mm j < 16 := by
    intro j
    unfold le_K
    split
    · exact hk
    · exact le_key_lt hk hm j
  refine ⟨pk_in 2 16 (by omega), br_f (g16 2 (by omega)) (le_find2 f g14 (fun b17 b18 n0 n1 n2 => ⟨4, ?_⟩))⟩
  refine le_wo 2 0 (by omega) (by omega) n0 (Or.inl f.1.1) (fun Q hQ => le_mp0 hk hm f g10 n0 (fun b10 b11 b12 b13 b14 r e1 e2 => hQ _ _ _ _ _ _ _ _ _ _ _ _ _ _ _ _ _ _ _ _ _ _ _ _ _ _ _ _ _ _ _ _ ?_))
  refine le_wo 2 1 (by omega) (by omega) n1 (Or.inr (Or.inr f.1.2.1)) (fun Q hQ => le_mp1 hk hm f r e1 e2 n1 (fun c10 c11 c12 c13 c14 I => hQ _ _ _ _ _ _ _ _ _ _ _ _ _ _ _ _ _ _ _ _ _ _ _ _ _ _ _ _ _ _ _ _ ?_))
  refine le_wo 2 2 (by omega) (by omega) n2 (Or.inr (Or.inl f.1.2.2)) (fun Q hQ => le_mp2 f hN hκ hK I.2.2 I.2.1 n2 (fun d10 d11 d12 d13 d14 d20 d21 d22 d23 q => hQ _ _ _ _ _ _ _ _ _ _ _ _ _ _ _ _ _ _ _ _ _ _ _ _ _ _ _ _ _ _ _ _ ?_))
  exact pk_lt 2 3 (fun _ => H _ _ _ _ _ _ _ _ _ _ _ _ q (le_16 (le_16 (le_16 g16 0) 1) 2)) (fun z => absurd z (by omega))
end
section
/-! in order -/
def le_first (kk mm : Nat) (v w : Int32) : Prop := kk < mm ∨ (kk = mm ∧ v ≤ w)
theorem le_isBefore {post : Int32 → Prop} {hc sc lv cl kn vn oc : Int32} {a1 a2 a3 a4 a5 a6 a7 a8 a9 a10 a11 a12 a13 a14 a15 a16 a17 a18 a19 a20 a21 a22 a23 a24 a25 : Nat → Int32} {kk mm : Nat} {v w p0 p1 p2 : Int32} (hk : kk < 16) (hm : mm < 16) (h24 : a24 0 = nI kk) (h25 : a25 0 = v) (h0 : le_first kk mm v w → post 0) (h1 : ¬ le_first kk mm v w → post 1)
    (hp0 : p0 = nI mm := by rfl) (hp1 : p1 = w := by rfl) (hp2 : p2 = nI 0 := by rfl) : wpX_isBefore post (hc, sc, lv, cl, kn, vn, oc, a1, a2, a3, a4, a5, a6, a7, a8, a9, a10, a11, a12, a13, a14, a15, a16, a17, a18, a19, a20, a21, a22, a23, a24, a25) p0 p1 p2 := by
  subst hp0 hp1 hp2 h25
  refine ⟨pk_in 0 48 (by omega), pk_eq mm kk (fun z => ⟨pk_in 0 48 (by omega), br_c (fun y => h0 (Or.inr ⟨z.symm, y⟩)) (fun y => h1 (fun t => ?_))⟩) (fun z => ⟨pk_in 0 48 (by omega), pk_le kk mm (fun y => h0 (Or.inl (by omega))) (fun y => h1 (fun t => ?_)) (hx := h24)⟩) (hy := h24)⟩
  · rcases t with t | t
    · omega
    · exact y t.2
  · rcases t with t | t
    · omega
    · exact z t.1.symm
theorem le_s90 {post : St2 → Prop} {J : Int32 → Int32 → (Nat → Int32) → (Nat → Int32) → (Nat → Int32) → (Nat → Int32) → (Nat → Int32) → (Nat → Int32) → (Nat → Int32) → (Nat → Int32) → (Nat → Int32) → (Nat → Int32) → (Nat → Int32) → (Nat → Int32) → (Nat → Int32) → (Nat → Int32) → (Nat → Int32) → (Nat → Int32) → (Nat → Int32) → (Nat → Int32) → (Nat → Int32) → (Nat → Int32) → (Nat → Int32) → (Nat → Int32) → (Nat → Int32) → (Nat → Int32) → (Nat → Int32) → Prop} {hc sc lv cl kn vn : Int32} {a1 a2 a3 a4 a5 a6 a7 a8 a9 a10 a11 a12 a13 a14 a15 a16 a17 a18 a19 a20 a21 a22 a23 a24 a25 : Nat → Int32} {kk mm : Nat} {v w : Int32} (i p c : Nat) (hk : kk < 16) (hm : mm < 16) (hi : i < 2) (hp : p < 48) (r : le_R kk mm v w a10 a12 a13)
    (h : J (nI (i + 1)) (nI (c + 1)) a1 a2 a3 a4 a5 a6 a7 a8 a9 a10 a11 a12 a13 a14 a15 a16 a17 a18 a19 a20 a21 a22 a23 (upd a24 p (nI (le_key kk mm i))) (upd a25 p (le_val v w i))) : wX_sortPairs_90 post J 0 (nI i) (nI p) hc sc lv cl kn vn (nI c) a1 a2 a3 a4 a5 a6 a7 a8 a9 a10 a11 a12 a13 a14 a15 a16 a17 a18 a19 a20 a21 a22 a23 a24 a25 := by
  have ei : (nI i).toNatClampNeg = i := nI_clamp (by omega)
  have ep : (nI p).toNatClampNeg = p := nI_clamp (by omega)
  have li := le_key_lt hk hm i
  exact ⟨pk_in i 768 (by omega), pk_in p 48 hp, nm_r (by rw [ei, ep, (r.2 i hi).1, le_nb (by omega)]) ⟨pk_in i 768 (by omega), pk_in p 48 hp, nm_r (by rw [ei, ep, (r.2 i hi).2]) (nm_r (nI_1 c) (nm_r (nI_1 i) h))⟩⟩
theorem le_sort {post : St2 → Prop} {hc sc lv cl kn vn oc : Int32} {a1 a2 a3 a4 a5 a6 a7 a8 a9 a10 a11 a12 a13 a14 a15 a16 a17 a18 a19 a20 a21 a22 a23 a24 a25 : Nat → Int32} {kk mm : Nat} {v w : Int32} (hk : kk < 16) (hm : mm < 16) (r : le_R kk mm v w a10 a12 a13)
    (H : ∀ b24 b25, (le_first kk mm v w → b25 0 = v ∧ b24 1 = nI mm) → (¬ le_first kk mm v w → b25 0 = w ∧ b24 1 = nI kk) → post (hc, sc, lv, cl, kn, vn, nI 2, a1, a2, a3, a4, a5, a6, a7, a8, a9, a10, a11, a12, a13, a14, a15, a16, a17, a18, a19, a20, a21, a22, a23, b24, b25)) : wpX_sortPairs post (hc, sc, lv, cl, kn, vn, oc, a1, a2, a3, a4, a5, a6, a7, a8, a9, a10, a11, a12, a13, a14, a15, a16, a17, a18, a19, a20, a21, a22, a23, a24, a25) 0 := by
  have x0 : 48 * (0 : Int32) + a10 (0 : Int32).toNatClampNeg = nI 2 := by
    show 48 * (0 : Int32) + a10 0 = nI 2
    rw [r.1]
    rfl
  have k0 : le_key kk mm 0 = kk := rfl
  have k1 : le_key kk mm 1 = mm := rfl
  have ex : ∀ b24 b25 n, (le_first kk mm v w → b25 0 = v ∧ b24 1 = nI mm) → (¬ le_first kk mm v w → b25 0 = w ∧ b24 1 = nI kk) → wX_sortPairs_10 post 0 hc sc lv cl kn vn (n + 1) (nI 2) (nI 2) a1 a2 a3 a4 a5 a6 a7 a8 a9 a10 a11 a12 a13 a14 a15 a16 a17 a18 a19 a20 a21 a22 a23 b24 b25 :=
    fun b24 b25 n q1 q2 => ⟨pk_in 0 16 (by omega), pk_le 2 2 (fun _ => H b24 b25 q1 q2) (fun z => absurd z (by omega)) (hx := x0)⟩
  refine nm_r (show 48 * (0 : Int32) = nI 0 from rfl) ⟨3, ⟨pk_in 0 16 (by omega), pk_le 2 0 (fun z => absurd z (by omega)) (fun _ => ⟨1, br_t (by decide) ?_⟩) (hx := x0)⟩⟩
  refine le_s90 0 0 0 hk hm (by omega) (by omega) r ?_
  refine ⟨pk_in 0 16 (by omega), pk_le 2 1 (fun z => absurd z (by omega)) (fun _ => ⟨2, br_f (by decide) ⟨pk_in 1 768 (by omega), pk_in 1 768 (by omega), ?_⟩⟩) (hx := x0)⟩
  refine le_isBefore hk hm pk_us pk_us (fun q => br_t rfl ?_) (fun q => br_f (by decide) ?_) (hp0 := (r.2 1 (by omega)).1) (hp1 := (r.2 1 (by omega)).2)
  · refine le_s90 1 1 1 hk hm (by omega) (by omega) r (ex _ _ 0 (fun _ => ⟨?_, ?_⟩) (fun z => absurd q z))
    · exact rfl
    · exact rfl
  · refine ⟨pk_in 0 48 (by omega), pk_in 1 48 (by omega), nm_r (e' := upd (upd a24 0 (nI kk)) 1 (nI kk)) ?_ ⟨pk_in 0 48 (by omega), pk_in 1 48 (by omega), nm_r (e' := upd (upd a25 0 v) 1 v) ?_ (nm_r (show nI 1 + (-1) = nI 0 from rfl) (br_t (by decide) ?_))⟩⟩
    · show upd (upd a24 0 (nI kk)) 1 (vp_nar .byte (nI kk)) = _
      rw [le_nb (by omega)]
    · rfl
    · refine le_s90 1 0 1 hk hm (by omega) (by omega) r (ex _ _ 0 (fun z => absurd z q) (fun _ => ⟨?_, ?_⟩))
      · exact rfl
      · exact rfl
end
section
/-! the calls of the law -/
theorem le_G_tidy {b10 b14 b16 : Nat → Int32} (h10 : ∀ d, d < 3 → b10 d = 0) (h14 : ∀ d, d < 3 → b14 d = 0) (h16 : ∀ d, d < 3 → ¬ b16 d = 2) : le_G b10 b14 b16 := ⟨h10, h14, h16⟩
theorem le_F15 {kk mm : Nat} {v w : Int32} {a3 a4 a5 a7 a8 a9 a15 : Nat → Int32} (f : le_F kk mm v w a3 a4 a5 a7 a8 a9 a15) : ∀ d, d < 3 → a15 d = 0 := f.2.2.2.2.2.2
theorem le_valueOf {post : Int32 → St2 → Prop} {hc lv cl kn vn oc : Int32} {a1 a2 a3 a4 a5 a6 a7 a8 a9 a10 a11 a12 a13 a14 a15 a16 a17 a18 a19 a20 a21 a22 a23 a24 a25 : Nat → Int32} {kk mm : Nat} {v w x : Int32} (hk : kk < 16) (hm : mm < 16) (f : le_F kk mm v w a3 a4 a5 a7 a8 a9 a15) (g : le_G a10 a14 a16)
    (hx : (le_first kk mm v w → x = v) ∧ (¬ le_first kk mm v w → x = w))
    (H : ∀ oc' b10 b11 b12 b13 b14 b16 b17 b18 b24 b25, le_G b10 b14 b16 → post x (hc, 3, lv, cl, kn, vn, oc', a1, a2, a3, a4, a5, a6, a7, a8, a9, b10, b11, b12, b13, b14, a15, b16, b17, b18, a19, a20, a21, a22, a23, b24, b25)) : wpX_valueOf post (hc, 3, lv, cl, kn, vn, oc, a1, a2, a3, a4, a5, a6, a7, a8, a9, a10, a11, a12, a13, a14, a15, a16, a17, a18, a19, a20, a21, a22, a23, a24, a25) 0 0 := by
  unfold wpX_valueOf
  refine le_isSet 0 (by omega) (br_f (by decide) (le_work0 hk hm f g (fun b10 b11 b12 b13 b14 b16 b17 b18 r h16 => br_f (by decide) ?_)))
  refine le_sort hk hm r (fun b24 b25 q1 q2 => le_tidy (le_F15 f) (fun c10 c14 h10 h14 => br_f (by decide) (br_t (by decide) ⟨pk_in 0 48 (by omega), ?_⟩)))
  have e : b25 (0 : Int32).toNatClampNeg = x := by
    show b25 0 = x
    by_cases q : le_first kk mm v w
    · rw [(q1 q).1, hx.1 q]
    · rw [(q2 q).1, hx.2 q]
  rw [e]
  exact H _ _ _ _ _ _ _ _ _ _ _ (le_G_tidy h10 h14 h16)
theorem le_keyOf {post : Int32 → St2 → Prop} {hc lv cl kn vn oc : Int32} {a1 a2 a3 a4 a5 a6 a7 a8 a9 a10 a11 a12 a13 a14 a15 a16 a17 a18 a19 a20 a21 a22 a23 a24 a25 : Nat → Int32} {kk mm : Nat} {v w x : Int32} (hk : kk < 16) (hm : mm < 16) (f : le_F kk mm v w a3 a4 a5 a7 a8 a9 a15) (g : le_G a10 a14 a16)
    (hx : (le_first kk mm v w → x = nI mm) ∧ (¬ le_first kk mm v w → x = nI kk))
    (H : ∀ oc' b10 b11 b12 b13 b14 b16 b17 b18 b24 b25, le_G b10 b14 b16 → post x (hc, 3, lv, cl, kn, vn, oc', a1, a2, a3, a4, a5, a6, a7, a8, a9, b10, b11, b12, b13, b14, a15, b16, b17, b18, a19, a20, a21, a22, a23, b24, b25)) : wpX_keyOf post (hc, 3, lv, cl, kn, vn, oc, a1, a2, a3, a4, a5, a6, a7, a8, a9, a10, a11, a12, a13, a14, a15, a16, a17, a18, a19, a20, a21, a22, a23, a24, a25) 0 1 := by
  unfold wpX_keyOf
  refine le_isSet 0 (by omega) (br_f (by decide) (le_work0 hk hm f g (fun b10 b11 b12 b13 b14 b16 b17 b18 r h16 => br_f (by decide) ?_)))
  refine le_sort hk hm r (fun b24 b25 q1 q2 => le_tidy (le_F15 f) (fun c10 c14 h10 h14 => br_f (by decide) (br_t (by decide) ⟨pk_in 1 48 (by omega), ?_⟩)))
  have e : b24 (1 : Int32).toNatClampNeg = x := by
    show b24 1 = x
    by_cases q : le_first kk mm v w
    · rw [(q1 q).2, hx.1 q]
    · rw [(q2 q).2, hx.2 q]
  rw [e]
  exact H _ _ _ _ _ _ _ _ _ _ _ (le_G_tidy h10 h14 h16)
theorem le_count {post : Int32 → St2 → Prop} {hc lv cl kn vn oc : Int32} {a1 a2 a3 a4 a5 a6 a7 a8 a9 a10 a11 a12 a13 a14 a15 a16 a17 a18 a19 a20 a21 a22 a23 a24 a25 : Nat → Int32} {kk mm : Nat} {v w : Int32} (hk : kk < 16) (hm : mm < 16) (f : le_F kk mm v w a3 a4 a5 a7 a8 a9 a15) (g : le_G a10 a14 a16)
    (H : ∀ b10 b11 b12 b13 b14 b16 b17 b18, le_G b10 b14 b16 → post (nI (le_N kk mm)) (hc, 3, lv, cl, kn, vn, oc, a1, a2, a3, a4, a5, a6, a7, a8, a9, b10, b11, b12, b13, b14, a15, b16, b17, b18, a19, a20, a21, a22, a23, a24, a25)) : wpX_count post (hc, 3, lv, cl, kn, vn, oc, a1, a2, a3, a4, a5, a6, a7, a8, a9, a10, a11, a12, a13, a14, a15, a16, a17, a18, a19, a20, a21, a22, a23, a24, a25) 1 := by
  unfold wpX_count
  refine le_isSet 1 (by omega) (br_f (by decide) (le_work1 hk hm f g (fun b10 b11 b12 b13 b14 b16 b17 b18 I h16 => br_f (by decide) ⟨pk_in 1 16 (by omega), nm_r I.2.2.1 ?_⟩)))
  exact le_tidy (le_F15 f) (fun c10 c14 h10 h14 => H _ _ _ _ _ _ _ _ (le_G_tidy h10 h14 h16))
theorem le_lk26 {post : Int32 → St2 → Prop} {hc lv cl kn vn oc : Int32} {a1 a2 a3 a4 a5 a6 a7 a8 a9 a10 a11 a12 a13 a14 a15 a16 a17 a18 a19 a20 a21 a22 a23 a24 a25 : Nat → Int32} {κ c : Nat} (hc8 : c ≤ 48) (h10 : a10 2 = nI c) (h15 : ∀ d, d < 3 → a15 d = 0)
    (H : ∀ b10 b14, (∀ d, d < 3 → b10 d = 0) → (∀ d, d < 3 → b14 d = 0) → post (le_look a12 a13 κ c) (hc, 3, lv, cl, kn, vn, oc, a1, a2, a3, a4, a5, a6, a7, a8, a9, b10, a11, a12, a13, b14, a15, a16, a17, a18, a19, a20, a21, a22, a23, a24, a25)) : ∃ fu, wX_lookup_26 post 2 (nI κ) hc 3 lv cl kn vn oc a1 a2 a3 a4 a5 a6 a7 a8 a9 a10 a11 a12 a13 a14 a15 a16 a17 a18 a19 a20 a21 a22 a23 a24 a25 fu 0 (nI 96) := by
  have x0 : 48 * (2 : Int32) + a10 (2 : Int32).toNatClampNeg = nI (96 + c) := by
    show 48 * (nI 2) + a10 2 = nI (48 * 2 + c)
    rw [h10, le_48]
  exact pk_loop (σ := Unit) (fun n i _ => wX_lookup_26 post 2 (nI κ) hc 3 lv cl kn vn oc a1 a2 a3 a4 a5 a6 a7 a8 a9 a10 a11 a12 a13 a14 a15 a16 a17 a18 a19 a20 a21 a22 a23 a24 a25 n (le_look a12 a13 κ i) (nI (96 + i))) (fun _ _ => True) c 0 () (by omega) trivial
    (fun n _ _ => ⟨pk_in 2 16 (by omega), pk_le (96 + c) (96 + c) (fun _ => le_tidy h15 H) (fun z => absurd z (by omega)) (hx := x0)⟩)
    (fun n i _ hi _ hw => by
      have e : (nI (96 + i)).toNatClampNeg = 96 + i := nI_clamp (by omega)
      refine ⟨pk_in 2 16 (by omega), pk_le (96 + c) (96 + i) (fun z => absurd z (by omega)) (fun _ => ⟨pk_in (96 + i) 768 (by omega), ?_⟩) (hx := x0)⟩
      have t := hw () trivial
      refine br_c (fun z => ⟨pk_in (96 + i) 768 (by omega), nm_r (e' := le_look a12 a13 κ (i + 1)) ?_ (nm_r (nI_1 (96 + i)) t)⟩) (fun z => nm_r (nI_1 (96 + i)) ?_)
      · rw [e] at z ⊢
        exact (if_pos z).symm
      · rw [e] at z
        have q : le_look a12 a13 κ (i + 1) = le_look a12 a13 κ i := if_neg z
        rw [q] at t
        exact t)
theorem le_lookup {post : Int32 → St2 → Prop} {hc cl kn vn oc : Int32} {a1 a2 a3 a4 a5 a6 a7 a8 a9 a10 a11 a12 a13 a14 a15 a16 a17 a18 a19 a20 a21 a22 a23 a24 a25 : Nat → Int32} {kk mm : Nat} {v w : Int32} {κ : Nat} (hk : kk < 16) (hm : mm < 16) (hκ : κ < 16) (f : le_F kk mm v w a3 a4 a5 a7 a8 a9 a15) (g : le_G a10 a14 a16)
    (H : ∀ b10 b11 b12 b13 b14 b16 b17 b18 b20 b21 b22 b23, le_G b10 b14 b16 → post (le_sum (le_K kk mm) (le_V kk mm v w) κ (le_N kk mm)) (hc, 3, 2, cl, kn, vn, oc, a1, a2, a3, a4, a5, a6, a7, a8, a9, b10, b11, b12, b13, b14, a15, b16, b17, b18, a19, b20, b21, b22, b23, a24, a25)) : wpX_lookup post (hc, 3, 2, cl, kn, vn, oc, a1, a2, a3, a4, a5, a6, a7, a8, a9, a10, a11, a12, a13, a14, a15, a16, a17, a18, a19, a20, a21, a22, a23, a24, a25) 2 (nI κ) := by
  unfold wpX_lookup
  refine le_isSet 2 (by omega) (br_f (by decide) (le_work2 hk hm hκ f g (fun b10 b11 b12 b13 b14 b16 b17 b18 b20 b21 b22 b23 q h16 => br_f (by decide) ?_)))
  obtain ⟨c, hc, h2, hl⟩ := q
  rw [if_pos hκ] at hl
  refine nm_r (by rfl) (le_lk26 (by omega) h2 (le_F15 f) (fun c10 c14 h10 h14 => ?_))
  rw [hl]
  exact H _ _ _ _ _ _ _ _ _ _ _ _ (le_G_tidy h10 h14 h16)
def le_tot (V : Nat → Int32) : Nat → Int32
  | 0 => 0
  | c + 1 => le_tot V c + V c
theorem le_tl25 {post : Int32 → St2 → Prop} {hc lv cl kn vn oc : Int32} {a1 a2 a3 a4 a5 a6 a7 a8 a9 a10 a11 a12 a13 a14 a15 a16 a17 a18 a19 a20 a21 a22 a23 a24 a25 : Nat → Int32} {K : Nat → Nat} {V : Nat → Int32} {c : Nat} (hc8 : c ≤ 48) (hT : le_T K V c a10 a11 a12 a13) (h15 : ∀ d, d < 3 → a15 d = 0)
    (H : ∀ b10 b14, (∀ d, d < 3 → b10 d = 0) → (∀ d, d < 3 → b14 d = 0) → post (le_tot V c) (hc, 3, lv, cl, kn, vn, oc, a1, a2, a3, a4, a5, a6, a7, a8, a9, b10, a11, a12, a13, b14, a15, a16, a17, a18, a19, a20, a21, a22, a23, a24, a25)) : ∃ fu, wX_total_25 post 1 hc 3 lv cl kn vn oc a1 a2 a3 a4 a5 a6 a7 a8 a9 a10 a11 a12 a13 a14 a15 a16 a17 a18 a19 a20 a21 a22 a23 a24 a25 fu 0 (nI 48) := by
  have x0 : 48 * (1 : Int32) + a10 (1 : Int32).toNatClampNeg = nI (48 + c) := by
    show 48 * (nI 1) + a10 1 = nI (48 * 1 + c)
    rw [hT.1, le_48]
  exact pk_loop (σ := Unit) (fun n i _ => wX_total_25 post 1 hc 3 lv cl kn vn oc a1 a2 a3 a4 a5 a6 a7 a8 a9 a10 a11 a12 a13 a14 a15 a16 a17 a18 a19 a20 a21 a22 a23 a24 a25 n (le_tot V i) (nI (48 + i))) (fun _ _ => True) c 0 () (by omega) trivial
    (fun n _ _ => ⟨pk_in 1 16 (by omega), pk_le (48 + c) (48 + c) (fun _ => le_tidy h15 H) (fun z => absurd z (by omega)) (hx := x0)⟩)
    (fun n i _ hi _ hw => by
      have e : (nI (48 + i)).toNatClampNeg = 48 + i := nI_clamp (by omega)
      exact ⟨pk_in 1 16 (by omega), pk_le (48 + c) (48 + i) (fun z => absurd z (by omega)) (fun _ => ⟨pk_in (48 + i) 768 (by omega), nm_r (e' := le_tot V (i + 1)) (by rw [e, (hT.2 i hi).2.2]; rfl) (nm_r (nI_1 (48 + i)) (hw () trivial))⟩) (hx := x0)⟩)
theorem le_total {post : Int32 → St2 → Prop} {hc lv cl kn vn oc : Int32} {a1 a2 a3 a4 a5 a6 a7 a8 a9 a10 a11 a12 a13 a14 a15 a16 a17 a18 a19 a20 a21 a22 a23 a24 a25 : Nat → Int32} {kk mm : Nat} {v w : Int32} (hk : kk < 16) (hm : mm < 16) (f : le_F kk mm v w a3 a4 a5 a7 a8 a9 a15) (g : le_G a10 a14 a16)
    (H : ∀ b10 b11 b12 b13 b14 b16 b17 b18, le_G b10 b14 b16 → post (le_tot (le_V kk mm v w) (le_N kk mm)) (hc, 3, lv, cl, kn, vn, oc, a1, a2, a3, a4, a5, a6, a7, a8, a9, b10, b11, b12, b13, b14, a15, b16, b17, b18, a19, a20, a21, a22, a23, a24, a25)) : wpX_total post (hc, 3, lv, cl, kn, vn, oc, a1, a2, a3, a4, a5, a6, a7, a8, a9, a10, a11, a12, a13, a14, a15, a16, a17, a18, a19, a20, a21, a22, a23, a24, a25) 1 := by
  have hN : le_N kk mm ≤ 48 := by
    unfold le_N
    split <;> omega
  unfold wpX_total
  refine le_isSet 1 (by omega) (br_f (by decide) (le_work1 hk hm f g (fun b10 b11 b12 b13 b14 b16 b17 b18 I h16 => br_f (by decide) (nm_r (by rfl) ?_))))
  exact le_tl25 hN I.2.2 (le_F15 f) (fun c10 c14 h10 h14 => H _ _ _ _ _ _ _ _ (le_G_tidy h10 h14 h16))
end
section
/-! rows and data sets are made -/
theorem le_row {post : Int32 → St2 → Prop} {hc sc lv cl kn vn oc : Int32} {a1 a2 a3 a4 a5 a6 a7 a8 a9 a10 a11 a12 a13 a14 a15 a16 a17 a18 a19 a20 a21 a22 a23 a24 a25 : Nat → Int32} {kk : Nat} {p v : Int32} (n : Nat) (hn : n < 24) (hk : kk < 16) (h : post (nI (n + 1)) (nI (n + 1), sc, lv, cl, kn, vn, oc, upd a1 n (nI kk), upd a2 n v, a3, a4, a5, a6, a7, a8, a9, a10, a11, a12, a13, a14, a15, a16, a17, a18, a19, a20, a21, a22, a23, a24, a25)) (hh : hc = nI n := by rfl) (hp : p = nI kk := by rfl) : wpX_row post (hc, sc, lv, cl, kn, vn, oc, a1, a2, a3, a4, a5, a6, a7, a8, a9, a10, a11, a12, a13, a14, a15, a16, a17, a18, a19, a20, a21, a22, a23, a24, a25) p v := by
  subst hh hp
  have e : (nI n).toNatClampNeg = n := nI_clamp (by omega)
  exact pk_lt n 24 (fun _ => br_f (nI_pos (by omega)) (pk_le kk 15 (fun _ => ⟨pk_in n 24 hn, nm_r (by rw [e, le_b8 kk (by omega)]) ⟨pk_in n 24 hn, nm_r (by rw [e]) (nm_r (nI_1 n) h)⟩⟩) (fun z => absurd z (by omega)))) (fun z => absurd z (by omega))
theorem le_isSetN {post : Int32 → Prop} {hc sc lv cl kn vn oc : Int32} {a1 a2 a3 a4 a5 a6 a7 a8 a9 a10 a11 a12 a13 a14 a15 a16 a17 a18 a19 a20 a21 a22 a23 a24 a25 : Nat → Int32} {p : Int32} (s d : Nat) (hd : d < s) (hs : s < 16) (h : post 1) (hh : sc = nI s := by rfl) (hp : p = nI d := by rfl) : wpX_isSet post (hc, sc, lv, cl, kn, vn, oc, a1, a2, a3, a4, a5, a6, a7, a8, a9, a10, a11, a12, a13, a14, a15, a16, a17, a18, a19, a20, a21, a22, a23, a24, a25) p := by
  subst hh hp
  exact br_f (nI_pos (by omega)) (pk_le s d (fun z => absurd z (by omega)) (fun _ => h))
theorem le_take {post : St2 → Prop} {hc sc lv cl kn vn oc : Int32} {a1 a2 a3 a4 a5 a6 a7 a8 a9 a10 a11 a12 a13 a14 a15 a16 a17 a18 a19 a20 a21 a22 a23 a24 a25 : Nat → Int32} {kk mm : Nat} {v w : Int32} (hk : kk < 16) (hm : mm < 16) (h10 : a1 0 = nI kk) (h11 : a1 1 = nI mm) (h20 : a2 0 = v) (h21 : a2 1 = w)
    (H : post (0, sc, lv, cl, kn, vn, oc, a1, a2, a3, a4, a5, a6, upd a7 0 2, upd (upd a8 0 (nI kk)) 1 (nI mm), upd (upd a9 0 v) 1 w, a10, a11, a12, a13, a14, a15, a16, a17, a18, a19, a20, a21, a22, a23, a24, a25)) (hh : hc = nI 2 := by rfl) : wpX_takeHand post (hc, sc, lv, cl, kn, vn, oc, a1, a2, a3, a4, a5, a6, a7, a8, a9, a10, a11, a12, a13, a14, a15, a16, a17, a18, a19, a20, a21, a22, a23, a24, a25) 0 := by
  subst hh h20 h21
  refine ⟨pk_in 0 16 (by omega), nm_r (e' := upd a7 0 2) (by rfl) ⟨3, ?_⟩⟩
  refine pk_le 2 0 (fun z => absurd z (by omega)) (fun _ => ⟨pk_in 0 24 (by omega), pk_in 0 384 (by omega), nm_r (e' := upd a8 0 (nI kk)) ?_ ⟨pk_in 0 24 (by omega), pk_in 0 384 (by omega), nm_r (e' := upd a9 0 (a2 0)) (by rfl) (nm_r (show (0 : Int32) + 1 = nI 1 from rfl) ?_)⟩⟩)
  · show upd a8 0 (vp_nar .byte (a1 0)) = _
    rw [h10, le_nb (by omega)]
  refine pk_le 2 1 (fun z => absurd z (by omega)) (fun _ => ⟨pk_in 1 24 (by omega), pk_in 1 384 (by omega), nm_r (e' := upd (upd a8 0 (nI kk)) 1 (nI mm)) ?_ ⟨pk_in 1 24 (by omega), pk_in 1 384 (by omega), nm_r (e' := upd (upd a9 0 (a2 0)) 1 (a2 1)) (by rfl) (nm_r (show nI 1 + 1 = nI 2 from rfl) ?_)⟩⟩)
  · show upd (upd a8 0 (nI kk)) 1 (vp_nar .byte (a1 1)) = _
    rw [h11, le_nb (by omega)]
  exact pk_le 2 2 (fun _ => H) (fun z => absurd z (by omega))
theorem le_d97 {post : Int32 → St2 → Prop} {hc sc lv cl kn vn oc : Int32} {a1 a2 a3 a4 a5 a6 a7 a8 a9 a10 a11 a12 a13 a14 a15 a16 a17 a18 a19 a20 a21 a22 a23 a24 a25 : Nat → Int32} {x1 x2 x3 x4 : Int32} (n : Nat) (hn : n < 16) (b1 : x1.toInt8.toInt32 = x1) (b2 : x2.toInt8.toInt32 = x2) (h0 : ¬ x1 = 0)
    (H : post (nI n) (hc, nI (n + 1), lv, cl, kn, vn, oc, a1, a2, upd a3 n x1, upd a4 n x2, upd a5 n x3, upd a6 n x4, a7, a8, a9, upd a10 n 0, a11, a12, a13, upd a14 n 0, upd a15 n 0, upd a16 n 0, a17, a18, a19, a20, a21, a22, a23, a24, a25)) (hh : sc = nI n := by rfl) : wX_derive_97 post x1 x2 x3 x4 hc sc lv cl kn vn oc a1 a2 a3 a4 a5 a6 a7 a8 a9 a10 a11 a12 a13 a14 a15 a16 a17 a18 a19 a20 a21 a22 a23 a24 a25 := by
  subst hh
  have e : (nI n).toNatClampNeg = n := nI_clamp (by omega)
  refine nm_r (nI_1 n) ⟨pk_in n 16 hn, nm_r (by rw [e, b1]) ⟨pk_in n 16 hn, nm_r (by rw [e, b2]) ⟨pk_in n 16 hn, nm_r (by rw [e]) ⟨pk_in n 16 hn, nm_r (by rw [e]) ?_⟩⟩⟩⟩
  exact le_forget n hn ⟨pk_in n 16 hn, nm_r (by rw [e]) ⟨pk_in n 16 hn, nm_r (by rw [e]) (br_f h0 H)⟩⟩
theorem le_derive0 {post : Int32 → St2 → Prop} {hc sc lv cl kn vn oc : Int32} {a1 a2 a3 a4 a5 a6 a7 a8 a9 a10 a11 a12 a13 a14 a15 a16 a17 a18 a19 a20 a21 a22 a23 a24 a25 : Nat → Int32} {kk mm : Nat} {v w : Int32} (hk : kk < 16) (hm : mm < 16) (h10 : a1 0 = nI kk) (h11 : a1 1 = nI mm) (h20 : a2 0 = v) (h21 : a2 1 = w)
    (H : post 0 (0, 1, lv, cl, kn, vn, oc, a1, a2, upd a3 0 0, upd a4 0 0, upd a5 0 0, upd a6 0 0, upd a7 0 2, upd (upd a8 0 (nI kk)) 1 (nI mm), upd (upd a9 0 v) 1 w, upd a10 0 0, a11, a12, a13, upd a14 0 0, upd a15 0 0, upd a16 0 0, a17, a18, a19, a20, a21, a22, a23, a24, a25)) (hh : hc = nI 2 := by rfl) (hs : sc = 0 := by rfl) : wpX_derive post (hc, sc, lv, cl, kn, vn, oc, a1, a2, a3, a4, a5, a6, a7, a8, a9, a10, a11, a12, a13, a14, a15, a16, a17, a18, a19, a20, a21, a22, a23, a24, a25) 0 0 0 0 := by
  subst hs
  refine br_t (by decide) (br_f (by decide) (br_t (by decide) (br_t rfl ?_)))
  refine le_two6 (Or.inr rfl) (br_t rfl ?_)
  refine br_f (by decide) (br_f (by decide) ?_)
  refine br_f (by decide) ?_
  refine nm_r (show (0 : Int32) + 1 = 1 from rfl) ⟨pk_in 0 16 (by omega), nm_r (e' := upd a3 0 0) (by rfl) ⟨pk_in 0 16 (by omega), nm_r (e' := upd a4 0 0) (by rfl) ⟨pk_in 0 16 (by omega), nm_r (e' := upd a5 0 0) (by rfl) ⟨pk_in 0 16 (by omega), nm_r (e' := upd a6 0 0) (by rfl) ?_⟩⟩⟩⟩
  refine le_forget 0 (by omega) ⟨pk_in 0 16 (by omega), nm_r (e' := upd a15 0 0) (by rfl) ⟨pk_in 0 16 (by omega), nm_r (e' := upd a16 0 0) (by rfl) (br_t rfl ?_)⟩⟩
  exact le_take hk hm h10 h11 h20 h21 H hh
theorem le_derive1 {post : Int32 → St2 → Prop} {hc sc lv cl kn vn oc : Int32} {a1 a2 a3 a4 a5 a6 a7 a8 a9 a10 a11 a12 a13 a14 a15 a16 a17 a18 a19 a20 a21 a22 a23 a24 a25 : Nat → Int32}
    (H : post 1 (hc, 2, lv, cl, kn, vn, oc, a1, a2, upd a3 1 7, upd a4 1 0, upd a5 1 0, upd a6 1 0, a7, a8, a9, upd a10 1 0, a11, a12, a13, upd a14 1 0, upd a15 1 0, upd a16 1 0, a17, a18, a19, a20, a21, a22, a23, a24, a25)) (hs : sc = 1 := by rfl) : wpX_derive post (hc, sc, lv, cl, kn, vn, oc, a1, a2, a3, a4, a5, a6, a7, a8, a9, a10, a11, a12, a13, a14, a15, a16, a17, a18, a19, a20, a21, a22, a23, a24, a25) 7 0 0 0 := by
  subst hs
  refine br_t (by decide) (br_f (by decide) (br_t (by decide) (br_f (by decide) (le_isSetN 1 0 (by omega) (by omega) (br_f (by decide) ?_)))))
  refine le_two7 rfl (br_f (by decide) (le_isSetN 1 0 (by omega) (by omega) (br_f (by decide) ?_)))
  refine br_f (by decide) (br_f (by decide) ?_)
  refine br_f (by decide) ?_
  exact le_d97 1 (by omega) (by decide) (by decide) (by decide) H
theorem le_derive2 {post : Int32 → St2 → Prop} {hc sc lv cl kn vn oc : Int32} {a1 a2 a3 a4 a5 a6 a7 a8 a9 a10 a11 a12 a13 a14 a15 a16 a17 a18 a19 a20 a21 a22 a23 a24 a25 : Nat → Int32}
    (H : post 2 (hc, 3, lv, cl, kn, vn, oc, a1, a2, upd a3 2 6, upd a4 2 1, upd a5 2 0, upd a6 2 0, a7, a8, a9, upd a10 2 0, a11, a12, a13, upd a14 2 0, upd a15 2 0, upd a16 2 0, a17, a18, a19, a20, a21, a22, a23, a24, a25)) (hs : sc = 2 := by rfl) : wpX_derive post (hc, sc, lv, cl, kn, vn, oc, a1, a2, a3, a4, a5, a6, a7, a8, a9, a10, a11, a12, a13, a14, a15, a16, a17, a18, a19, a20, a21, a22, a23, a24, a25) 6 1 0 0 := by
  subst hs
  refine br_t (by decide) (br_f (by decide) (br_t (by decide) (br_f (by decide) (le_isSetN 2 1 (by omega) (by omega) (br_f (by decide) ?_)))))
  refine le_two6 (Or.inl rfl) (br_t rfl ?_)
  refine br_f (by decide) (br_t rfl ?_)
  refine br_f (by decide) (br_t (by decide) ?_)
  refine br_f (by decide) ?_
  exact le_d97 2 (by omega) (by decide) (by decide) (by decide) H
theorem le_init {post : St2 → Prop} (h : post (0, 0, 2, 0, 0, 0, 0, (fun _ => 0), (fun _ => 0), (fun _ => 0), (fun _ => 0), (fun _ => 0), (fun _ => 0), (fun _ => 0), (fun _ => 0), (fun _ => 0), (fun _ => 0), (fun _ => 0), (fun _ => 0), (fun _ => 0), (fun _ => 0), (fun _ => 0), (fun _ => 0), (fun _ => 0), (fun _ => 0), (fun _ => 0), (fun _ => 0), (fun _ => 0), (fun _ => 0), (fun _ => 0), (fun _ => 0), (fun _ => 0))) : wpX_init post 25 3472 (0, 0, 0, 0, 0, 0, 0) :=
  ⟨by decide, by decide, by decide, by decide, by decide, by decide, by decide, by decide, by decide, by decide, by decide, by decide, by decide, by decide, by decide, by decide, by decide, by decide, by decide, by decide, by decide, by decide, by decide, by decide, by decide, by decide, by decide, by decide, by decide, by decide, by decide, by decide, by decide, by decide, by decide, by decide, by decide, by decide, by decide, by decide, by decide, by decide, by decide, by decide, by decide, by decide, by decide, by decide, by decide, by decide, h⟩
end
section
/-! the law -/
theorem le_ring4 (v w : Int32) : 0 + (v + v) + (v + w) + (w + v) + (w + w) = 4 * (v + w) := by grind
theorem le_ring2 (v w : Int32) : 0 + (v + v) + (w + w) = 2 * (v + w) := by grind
theorem le_tot_same {kk mm : Nat} {v w : Int32} (e : kk = mm) : le_tot (le_V kk mm v w) (le_N kk mm) = 4 * (v + w) := by
  have eN : le_N kk mm = 4 := if_pos e
  have eV : ∀ c, le_V kk mm v w c = le_val v w (c / 2) + le_val v w (c % 2) := fun c => if_pos e
  rw [eN]
  show 0 + le_V kk mm v w 0 + le_V kk mm v w 1 + le_V kk mm v w 2 + le_V kk mm v w 3 = _
  rw [eV, eV, eV, eV]
  exact le_ring4 v w
theorem le_tot_diff {kk mm : Nat} {v w : Int32} (e : ¬ kk = mm) : le_tot (le_V kk mm v w) (le_N kk mm) = 2 * (v + w) := by
  have eN : le_N kk mm = 2 := if_neg e
  have eV : ∀ c, le_V kk mm v w c = le_val v w c + le_val v w c := fun c => if_neg e
  rw [eN]
  show 0 + le_V kk mm v w 0 + le_V kk mm v w 1 = _
  rw [eV, eV]
  exact le_ring2 v w
theorem le_sum_same {kk mm : Nat} {v w : Int32} (e : kk = mm) : le_sum (le_K kk mm) (le_V kk mm v w) kk (le_N kk mm) = 4 * (v + w) := by
  have eN : le_N kk mm = 4 := if_pos e
  have eV : ∀ c, le_V kk mm v w c = le_val v w (c / 2) + le_val v w (c % 2) := fun c => if_pos e
  have eK : ∀ c, le_K kk mm c = kk := fun c => if_pos e
  have st : ∀ n, le_sum (le_K kk mm) (le_V kk mm v w) kk (n + 1) = le_sum (le_K kk mm) (le_V kk mm v w) kk n + le_V kk mm v w n := fun n => if_pos (eK n)
  rw [eN, st 3, st 2, st 1, st 0, eV, eV, eV, eV]
  exact le_ring4 v w
theorem le_sum_diff {kk mm : Nat} {v w : Int32} (e : ¬ kk = mm) : le_sum (le_K kk mm) (le_V kk mm v w) kk (le_N kk mm) = v + v := by
  have eN : le_N kk mm = 2 := if_neg e
  have eV : le_V kk mm v w 0 = v + v := if_neg e
  have k0 : le_K kk mm 0 = kk := if_neg e
  have k1 : le_K kk mm 1 = mm := if_neg e
  have s1 : le_sum (le_K kk mm) (le_V kk mm v w) kk (1 + 1) = le_sum (le_K kk mm) (le_V kk mm v w) kk 1 := if_neg (by rw [k1]; omega)
  have s0 : le_sum (le_K kk mm) (le_V kk mm v w) kk (0 + 1) = 0 + le_V kk mm v w 0 := if_pos k0
  rw [eN, s1, s0, eV, Int32.zero_add]
theorem le_l224 {post : Int32 → St0 → Prop} {hc cl kn vn oc : Int32} {a1 a2 a3 a4 a5 a6 a7 a8 a9 a10 a11 a12 a13 a14 a15 a16 a17 a18 a19 a20 a21 a22 a23 a24 a25 : Nat → Int32} {mc ms kc ks kk mm : Nat} {v w x6 z0 z1 : Int32} (hk : kk < 16) (hm : mm < 16) (f : le_F kk mm v w a3 a4 a5 a7 a8 a9 a15) (g : le_G a10 a14 a16) (h6 : x6 = 0 ↔ ¬ kk = mm) (hz : z1 = z0) (H : post 1 ()) :
    wL_lawOf_224 post mc ms v w x6 z0 z1 kc ks hc 3 2 cl kn vn oc a1 a2 a3 a4 a5 a6 a7 a8 a9 a10 a11 a12 a13 a14 a15 a16 a17 a18 a19 a20 a21 a22 a23 a24 a25 :=
  br_t hz (le_total hk hm f g (fun _ _ _ _ _ _ _ _ _ => br_c (fun z => br_t (le_tot_diff (h6.mp z)) H) (fun z => br_t (le_tot_same (Decidable.not_not.mp (fun t => z (h6.mpr t)))) H)))
theorem le_l195 {post : Int32 → St0 → Prop} {hc cl kn vn oc : Int32} {a1 a2 a3 a4 a5 a6 a7 a8 a9 a10 a11 a12 a13 a14 a15 a16 a17 a18 a19 a20 a21 a22 a23 a24 a25 : Nat → Int32} {mc ms kc ks kk mm : Nat} {v w x6 z0 z1 : Int32} (hk : kk < 16) (hm : mm < 16) (f : le_F kk mm v w a3 a4 a5 a7 a8 a9 a15) (g : le_G a10 a14 a16) (h6 : x6 = 0 ↔ ¬ kk = mm) (hz : z1 = z0) (H : post 1 ()) :
    wL_lawOf_195 post mc ms v w (nI kk) x6 z0 z1 kc ks hc 3 2 cl kn vn oc a1 a2 a3 a4 a5 a6 a7 a8 a9 a10 a11 a12 a13 a14 a15 a16 a17 a18 a19 a20 a21 a22 a23 a24 a25 :=
  br_t hz (le_lookup hk hm hk f g (fun _ _ _ _ _ _ _ _ _ _ _ _ g' => br_c (fun z => le_l224 hk hm f g' h6 (le_sum_diff (h6.mp z)) H) (fun z => le_l224 hk hm f g' h6 (le_sum_same (Decidable.not_not.mp (fun t => z (h6.mpr t)))) H)))
theorem le_l174 {post : Int32 → St0 → Prop} {hc cl kn vn oc : Int32} {a1 a2 a3 a4 a5 a6 a7 a8 a9 a10 a11 a12 a13 a14 a15 a16 a17 a18 a19 a20 a21 a22 a23 a24 a25 : Nat → Int32} {mc ms kc ks kk mm : Nat} {v w x6 z0 z1 : Int32} (hk : kk < 16) (hm : mm < 16) (f : le_F kk mm v w a3 a4 a5 a7 a8 a9 a15) (g : le_G a10 a14 a16) (h6 : x6 = 0 ↔ ¬ kk = mm) (hz : z1 = z0) (H : post 1 ()) :
    wL_lawOf_174 post mc ms v w (nI kk) x6 z0 z1 kc ks hc 3 2 cl kn vn oc a1 a2 a3 a4 a5 a6 a7 a8 a9 a10 a11 a12 a13 a14 a15 a16 a17 a18 a19 a20 a21 a22 a23 a24 a25 :=
  br_t hz (le_count hk hm f g (fun _ _ _ _ _ _ _ _ g' => br_c
    (fun z => le_l195 hk hm f g' h6 (show nI (le_N kk mm) = 2 by rw [show le_N kk mm = 2 from if_neg (h6.mp z)]; rfl) H)
    (fun z => le_l195 hk hm f g' h6 (show nI (le_N kk mm) = 4 by rw [show le_N kk mm = 4 from if_pos (Decidable.not_not.mp (fun t => z (h6.mpr t)))]; rfl) H)))
theorem le_l150 {post : Int32 → St0 → Prop} {hc cl kn vn oc : Int32} {a1 a2 a3 a4 a5 a6 a7 a8 a9 a10 a11 a12 a13 a14 a15 a16 a17 a18 a19 a20 a21 a22 a23 a24 a25 : Nat → Int32} {mc ms kc ks kk mm : Nat} {v w x6 x7 z0 z1 : Int32} (hk : kk < 16) (hm : mm < 16) (f : le_F kk mm v w a3 a4 a5 a7 a8 a9 a15) (g : le_G a10 a14 a16) (h6 : x6 = 0 ↔ ¬ kk = mm) (h7 : x7 = 0 ↔ ¬ le_first kk mm v w) (hz : z1 = z0) (H : post 1 ()) :
    wL_lawOf_150 post mc ms v w (nI kk) (nI mm) x6 x7 z0 z1 kc ks hc 3 2 cl kn vn oc a1 a2 a3 a4 a5 a6 a7 a8 a9 a10 a11 a12 a13 a14 a15 a16 a17 a18 a19 a20 a21 a22 a23 a24 a25 := by
  by_cases q : le_first kk mm v w
  · exact br_t hz (le_keyOf (x := nI mm) hk hm f g ⟨fun _ => rfl, fun t => absurd q t⟩ (fun _ _ _ _ _ _ _ _ _ _ _ g' => br_f (fun z => absurd q (h7.mp z)) (le_l174 hk hm f g' h6 rfl H)))
  · exact br_t hz (le_keyOf (x := nI kk) hk hm f g ⟨fun t => absurd t q, fun _ => rfl⟩ (fun _ _ _ _ _ _ _ _ _ _ _ g' => br_t (h7.mpr q) (le_l174 hk hm f g' h6 rfl H)))
theorem le_l48 {post : Int32 → St0 → Prop} {kk mm : Nat} {v w x6 z0 : Int32} (hk : kk < 16) (hm : mm < 16) (h6 : x6 = 0 ↔ ¬ kk = mm) (h7 : z0 = 0 ↔ ¬ le_first kk mm v w) (H : post 1 ()) :
    wL_lawOf_48 post 26 3504 v w (nI kk) (nI mm) x6 z0 0 0 := by
  refine ⟨by decide, by decide, 25, 3472, by decide, by decide, le_init ?_⟩
  refine le_row 0 (by omega) hk (br_t rfl ?_)
  refine le_row 1 (by omega) hm (br_t rfl ?_)
  refine le_derive0 hk hm rfl rfl rfl rfl (br_t rfl ?_)
  refine le_derive1 (br_t rfl ?_)
  refine le_derive2 (br_t rfl ?_)
  have d3 : ∀ {P : Nat → Prop}, P 0 → P 1 → P 2 → ∀ d, d < 3 → P d := fun h0 h1 h2 d hd => co_3 h0 h1 h2 hd
  by_cases q : le_first kk mm v w
  · refine le_valueOf (x := v) hk hm ⟨⟨rfl, rfl, rfl⟩, ⟨rfl, rfl⟩, ⟨rfl, rfl⟩, rfl, ⟨rfl, rfl⟩, ⟨rfl, rfl⟩, d3 rfl rfl rfl⟩ ⟨d3 rfl rfl rfl, d3 rfl rfl rfl, d3 (by decide) (by decide) (by decide)⟩ ⟨fun _ => rfl, fun t => absurd q t⟩ (fun _ _ _ _ _ _ _ _ _ _ _ g' => br_f (fun z => absurd q (h7.mp z)) ?_)
    exact le_l150 hk hm ⟨⟨rfl, rfl, rfl⟩, ⟨rfl, rfl⟩, ⟨rfl, rfl⟩, rfl, ⟨rfl, rfl⟩, ⟨rfl, rfl⟩, d3 rfl rfl rfl⟩ g' h6 h7 rfl H
  · refine le_valueOf (x := w) hk hm ⟨⟨rfl, rfl, rfl⟩, ⟨rfl, rfl⟩, ⟨rfl, rfl⟩, rfl, ⟨rfl, rfl⟩, ⟨rfl, rfl⟩, d3 rfl rfl rfl⟩ ⟨d3 rfl rfl rfl, d3 rfl rfl rfl, d3 (by decide) (by decide) (by decide)⟩ ⟨fun t => absurd t q, fun _ => rfl⟩ (fun _ _ _ _ _ _ _ _ _ _ _ g' => br_t (h7.mpr q) ?_)
    exact le_l150 hk hm ⟨⟨rfl, rfl, rfl⟩, ⟨rfl, rfl⟩, ⟨rfl, rfl⟩, rfl, ⟨rfl, rfl⟩, ⟨rfl, rfl⟩, d3 rfl rfl rfl⟩ g' h6 h7 rfl H
theorem le_l24 {post : Int32 → St0 → Prop} {kk mm : Nat} {v w z0 : Int32} (hk : kk < 16) (hm : mm < 16) (h6 : z0 = 0 ↔ ¬ kk = mm) (H : post 1 ()) : wL_lawOf_24 post 26 3504 v w (nI kk) (nI mm) z0 0 0 := by
  refine pk_lt kk mm (fun z => le_l48 hk hm h6 ⟨fun t => absurd t (by decide), fun t => absurd (Or.inl z) t⟩ H) (fun z => br_c (fun s => le_l48 hk hm h6 ⟨fun _ t => ?_, fun _ => rfl⟩ H) (fun s => br_c (fun y => le_l48 hk hm h6 ⟨fun _ t => ?_, fun _ => rfl⟩ H) (fun y => le_l48 hk hm h6 ⟨fun t => absurd t (by decide), fun t => absurd (Or.inr ⟨Decidable.not_not.mp (fun u => s (h6.mpr u)), Int32.not_lt.mp y⟩) t⟩ H)))
  · rcases t with t | t
    · omega
    · exact h6.mp s t.1
  · rcases t with t | t
    · omega
    · exact absurd y (Int32.not_lt.mpr t.2)
theorem le_cell {post : Int32 → Prop} {L : Nat} {xs : Nat → Int32} {p : Int32} (j : Nat) (hL : L ≤ 4) (hj : j < 4) (h : ∀ r, post r) (hp : p = nI j := by rfl) : wpL_cellAt post L xs () p := by
  subst hp
  exact pk_le L j (fun _ => h _) (fun z => ⟨pk_in j L z, h _⟩)
theorem i_vc (xs : Nat → Int32) (L : Nat) (hL : L ≤ 4) : wpL_law (fun r => r = 1) L xs := by
  refine le_cell 0 hL (by omega) (fun p => le_cell 1 hL (by omega) (fun v => le_cell 2 hL (by omega) (fun q => le_cell 3 hL (by omega) (fun w => ⟨26, 3504, by decide, by decide, ?_⟩))))
  obtain ⟨kk, hk, ek⟩ := pk_andE p (m := 15) 4 (by decide)
  obtain ⟨mm, hm, em⟩ := pk_andE q (m := 15) 4 (by decide)
  exact nm_r ek (nm_r em (pk_eq kk mm (fun e => le_l24 hk hm ⟨fun t => absurd t (by decide), fun t => absurd e t⟩ rfl) (fun e => le_l24 hk hm ⟨fun _ => e, fun _ => rfl⟩ rfl) (ha := by omega) (hb := by omega)))
end
