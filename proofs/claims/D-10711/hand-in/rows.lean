section
/-! small facts about numbers, stores and the flags of the law -/
section
variable {k : Nat}
theorem hs_b0 : (0 : Int32).toInt8.toInt32 = 0 := by decide
theorem hs_b24 : (24 : Int32).toInt8.toInt32 = 24 := by decide
theorem hs_n0 : vp_nar .byte 0 = 0 := by rw [vp_nar_byte]; decide
theorem hs_n24 : vp_nar .byte 24 = 24 := by rw [vp_nar_byte]; decide
theorem hs_bk (hk : k < 4) : (nI k).toInt8.toInt32 = nI k :=
  co_4 (P := fun k => (nI k).toInt8.toInt32 = nI k) (by decide) (by decide) (by decide) (by decide) hk
theorem hs_bv {v : Int32} (hv : v = 0 ∨ v = 24) : v.toInt8.toInt32 = v := by
  rcases hv with rfl | rfl
  · exact hs_b0
  · exact hs_b24
theorem hs_c0 : (0 : Int32).toNatClampNeg = 0 := by decide
theorem hs_ck (hk : k < 4) : (nI k).toNatClampNeg = k := nI_clamp (by omega)
theorem hs_i24 (k : Nat) : nI k * 24 + 0 = nI (k * 24) := by
  have h : nI k * nI 24 + nI 0 = nI (k * 24 + 0) := by rw [pk_mul, nI_add]
  exact h
theorem hs_i24n (k : Nat) : nI k * 24 = nI (k * 24) := by
  have h : nI k * nI 24 = nI (k * 24) := by rw [pk_mul]
  exact h
theorem hs_i24p (k : Nat) : nI k * 24 + 1 - 1 = nI (k * 24) := by
  have h : nI k * nI 24 + nI 1 = nI (k * 24 + 1) := by rw [pk_mul, nI_add]
  have h' : nI k * 24 + 1 = nI (k * 24 + 1) := h
  rw [h', nI_pred]
theorem hs_i64 (k i : Nat) : nI k * 64 + nI i = nI (k * 64 + i) := by
  have h : nI k * nI 64 + nI i = nI (k * 64 + i) := by rw [pk_mul, nI_add]
  exact h
theorem hs_i64a (k i : Nat) : nI k * 64 + 2 * nI i = nI (k * 64 + 2 * i) := by
  have h : nI k * nI 64 + nI 2 * nI i = nI (k * 64 + 2 * i) := by rw [pk_mul, pk_mul, nI_add]
  exact h
theorem hs_i64b (k i : Nat) : nI k * 64 + 2 * nI i + 1 = nI (k * 64 + 2 * i + 1) := by
  rw [hs_i64a, nI_1]
theorem hs_4 (k : Nat) : 4 + nI k = nI (4 + k) := nI_add 4 k
theorem hs_p0 (b : Nat) : nI b + 0 = nI b := nI_add b 0
theorem hs_half (i : Nat) (h : i ≤ 16) : nI (2 * i) / 2 = nI i := by
  have h : nI (2 * i) / nI 2 = nI (2 * i / 2) := pk_div (by omega) (by omega) (by omega)
  rw [show 2 * i / 2 = i by omega] at h
  exact h
theorem hs_25 : vp_in 0 25 := pk_in 0 25 (by decide)
theorem hs_24 : vp_in 0 24 := pk_in 0 24 (by decide)
theorem hs_k4 (hk : k < 4) : vp_in (nI k) 4 := pk_in k 4 hk
/-- a store of what stands there already -/
theorem hs_same {f : Nat → Int32} {j : Nat} {v : Int32} (h : f j = v) : upd f j v = f := by
  funext i
  by_cases e : i = j
  · rw [e, pk_us, h]
  · rw [pk_un e]
/-- a key is a short -/
theorem hs_short {x : Int32} (h1 : ¬ x < (-999)) (h2 : ¬ 999 < x) : x.toInt16.toInt32 = x := by
  have e1 : (-999 : Int32).toInt = -999 := by decide
  have e2 : (999 : Int32).toInt = 999 := by decide
  rw [Int32.lt_iff_toInt_lt, e1] at h1
  rw [Int32.lt_iff_toInt_lt, e2] at h2
  apply Int32.toInt_inj.mp
  rw [Int16.toInt_toInt32, Int32.toInt_toInt16, Int.bmod_def]
  omega
/-- a flag of the law -/
def hs_F (z : Int32) (P : Prop) : Prop := (z = 0 ∧ ¬ P) ∨ (z = 1 ∧ P)
theorem hs_F0 {P : Prop} (h : ¬ P) : hs_F 0 P := Or.inl ⟨rfl, h⟩
theorem hs_F1 {P : Prop} (h : P) : hs_F 1 P := Or.inr ⟨rfl, h⟩
theorem hs_Fb {z : Int32} {P A B : Prop} (h : hs_F z P) (a : ¬ P → A) (b : P → B) : (z = 0 → A) ∧ (¬ z = 0 → B) := by
  rcases h with ⟨e, n⟩ | ⟨e, n⟩
  · exact br_t e (a n)
  · exact br_f (by rw [e]; decide) (b n)
theorem hs_q3 {p : Int32} (h : nI 4 ≤ p) : 3 < p := by
  have e : (3 : Int32).toInt = 3 := by decide
  rw [Int32.le_iff_toInt_le, nI_toInt (by omega)] at h
  rw [Int32.lt_iff_toInt_lt, e]
  omega
theorem hs_q3n {j : Nat} (h : j < 4) : ¬ 3 < nI j := by
  have e : (3 : Int32).toInt = 3 := by decide
  rw [Int32.lt_iff_toInt_lt, e, nI_toInt (by omega)]
  omega
theorem hs_e6 {p : Int32} (h : nI 7 ≤ p) : ¬ p ≤ 6 := by
  have e : (6 : Int32).toInt = 6 := by decide
  rw [Int32.le_iff_toInt_le, nI_toInt (by omega)] at h
  rw [Int32.le_iff_toInt_le, e]
  omega
theorem hs_e6n {j : Nat} (h : j < 7) : nI j ≤ 6 := by
  have e : (6 : Int32).toInt = 6 := by decide
  rw [Int32.le_iff_toInt_le, e, nI_toInt (by omega)]
  omega
theorem hs_npos {n : Nat} {p : Int32} (hn : n < 2 ^ 31) (h : nI n ≤ p) : ¬ p < 0 := by
  have e : (0 : Int32).toInt = 0 := by decide
  rw [Int32.le_iff_toInt_le, nI_toInt hn] at h
  rw [Int32.lt_iff_toInt_lt, e]
  omega
end
end
section
/-! the methods that put the first item (0) into the empty queue k -/
section
variable {f0 : Int32} {a1 a2 a3 a4 a5 a6 a7 a8 a9 a10 a11 a12 a13 a14 a15 a16 a17 a18 a19 a20 a21 a22 a23 a24 a25 a26 a27 a28 a29 a30 a31 a32 : Nat → Int32} {k : Nat}
theorem hs_cb {post : Int32 → Prop} (hp : post 0) : wpX_comesBefore post (f0, a1, a2, a3, a4, a5, a6, a7, a8, a9, a10, a11, a12, a13, a14, a15, a16, a17, a18, a19, a20, a21, a22, a23, a24, a25, a26, a27, a28, a29, a30, a31, a32) 0 0 :=
  And.intro hs_24 (And.intro hs_24 (br_f Int32.lt_irrefl (And.intro hs_24 (And.intro hs_24 (br_t rfl (br_t (by decide) hp))))))
theorem hs_setPlace {post : St2 → Prop} (hk : k < 4) (hp : post (f0, a1, a2, a3, upd a4 (k * 24) 0, upd a5 0 0, a6, a7, a8, a9, a10, a11, a12, a13, a14, a15, a16, a17, a18, a19, a20, a21, a22, a23, a24, a25, a26, a27, a28, a29, a30, a31, a32)) : wpX_setPlace post (f0, a1, a2, a3, a4, a5, a6, a7, a8, a9, a10, a11, a12, a13, a14, a15, a16, a17, a18, a19, a20, a21, a22, a23, a24, a25, a26, a27, a28, a29, a30, a31, a32) (nI k) 0 0 :=
  And.intro (pk_in (k * 24) 96 (by omega) (hs_i24 k)) (nm_r (e' := upd a4 (k * 24) 0) (by rw [hs_i24, nI_clamp (by omega), hs_b0])
    (And.intro hs_24 (nm_r (e' := upd a5 0 0) (by rw [hs_c0, hs_b0]) hp)))
theorem hs_rise {post : St2 → Prop} {i : Int32} (hk : k < 4) (hi : i = 0) (h4 : a4 (k * 24) = 0) (hp : post (f0, a1, a2, a3, upd a4 (k * 24) 0, upd a5 0 0, a6, a7, a8, a9, a10, a11, a12, a13, a14, a15, a16, a17, a18, a19, a20, a21, a22, a23, a24, a25, a26, a27, a28, a29, a30, a31, a32)) : wpX_rise post (f0, a1, a2, a3, a4, a5, a6, a7, a8, a9, a10, a11, a12, a13, a14, a15, a16, a17, a18, a19, a20, a21, a22, a23, a24, a25, a26, a27, a28, a29, a30, a31, a32) (nI k) i := by
  subst hi
  exact And.intro (pk_in (k * 24) 96 (by omega) (hs_i24 k)) (nm_r (e' := 0) (by rw [hs_i24, nI_clamp (by omega), h4])
    (Exists.intro (0 + 1) (br_t (by decide) (hs_setPlace hk hp))))
theorem hs_addToArray {post : St2 → Prop} {n : Int32} (hk : k < 4) (hn : n = 0) (hp : post (f0, a1, a2, a3, upd (upd a4 (k * 24) 0) (k * 24) 0, upd (upd a5 0 0) 0 0, a6, a7, a8, a9, a10, a11, a12, a13, a14, a15, a16, a17, a18, a19, a20, a21, a22, a23, a24, a25, a26, a27, a28, a29, a30, a31, a32)) : wpX_addToArray post (f0, a1, a2, a3, a4, a5, a6, a7, a8, a9, a10, a11, a12, a13, a14, a15, a16, a17, a18, a19, a20, a21, a22, a23, a24, a25, a26, a27, a28, a29, a30, a31, a32) (nI k) 0 n := by
  subst hn
  unfold wpX_addToArray
  refine hs_setPlace hk ?_
  exact hs_rise hk rfl pk_us hp
theorem hs_pairN {post : Int32 → St2 → Prop} {a b : Int32} (ha : a = 24) (hp : post b (f0, a1, a2, a3, a4, a5, a6, a7, a8, a9, a10, a11, a12, a13, a14, a15, a16, a17, a18, a19, a20, a21, a22, a23, a24, a25, a26, a27, a28, a29, a30, a31, a32)) : wpX_pair post (f0, a1, a2, a3, a4, a5, a6, a7, a8, a9, a10, a11, a12, a13, a14, a15, a16, a17, a18, a19, a20, a21, a22, a23, a24, a25, a26, a27, a28, a29, a30, a31, a32) a b :=
  br_t ha (br_t ha hp)
theorem hs_addToPairs {post : St2 → Prop} (hk : k < 4) (h6 : a6 k = 24) (hp : post (f0, a1, a2, a3, a4, a5, upd a6 k 0, upd a7 0 24, upd a8 0 24, upd a9 0 24, a10, a11, a12, a13, a14, a15, a16, a17, a18, a19, a20, a21, a22, a23, a24, a25, a26, a27, a28, a29, a30, a31, a32)) : wpX_addToPairs post (f0, a1, a2, a3, a4, a5, a6, a7, a8, a9, a10, a11, a12, a13, a14, a15, a16, a17, a18, a19, a20, a21, a22, a23, a24, a25, a26, a27, a28, a29, a30, a31, a32) (nI k) 0 :=
  And.intro hs_25 (nm_r (e' := upd a7 0 24) (by rw [hs_c0]) (And.intro hs_25 (nm_r (e' := upd a8 0 24) (by rw [hs_c0]) (And.intro hs_25 (nm_r (e' := upd a9 0 24) (by rw [hs_c0])
    (And.intro (hs_k4 hk) (hs_pairN (by rw [hs_ck hk, h6]) (And.intro (hs_k4 hk) (nm_r (e' := upd a6 k 0) (by rw [hs_ck hk, hs_b0]) hp)))))))))
theorem hs_setItem {post : St2 → Prop} (hp : post (f0, a1, a2, a3, a4, a5, a6, a7, a8, a9, a10, upd a11 0 0, upd a12 0 0, a13, a14, a15, a16, a17, a18, a19, a20, a21, a22, a23, a24, a25, a26, a27, a28, a29, a30, a31, a32)) : wpX_setItem post (f0, a1, a2, a3, a4, a5, a6, a7, a8, a9, a10, a11, a12, a13, a14, a15, a16, a17, a18, a19, a20, a21, a22, a23, a24, a25, a26, a27, a28, a29, a30, a31, a32) 0 0 :=
  And.intro hs_25 (nm_r (e' := upd a11 0 0) (by rw [hs_c0, hs_b0]) (And.intro hs_24 (nm_r (e' := upd a12 0 0) (by rw [hs_c0, hs_b0]) hp)))
theorem hs_sort0 {post : Int32 → St2 → Prop} {a b : Int32} (ha : a = 24) (hb : b = 0) (h : a15 0 = 24) (hp : post 0 (f0, a1, a2, a3, a4, a5, a6, a7, a8, a9, a10, a11, a12, a13, a14, a15, a16, a17, a18, a19, a20, a21, a22, a23, a24, a25, a26, a27, a28, a29, a30, a31, a32)) : wpX_sortRows post (f0, a1, a2, a3, a4, a5, a6, a7, a8, a9, a10, a11, a12, a13, a14, a15, a16, a17, a18, a19, a20, a21, a22, a23, a24, a25, a26, a27, a28, a29, a30, a31, a32) a b := by
  subst ha hb
  exact Exists.intro (0 + 1 + 1) (br_t rfl (br_f (by decide) (br_f (by decide) (br_t rfl (br_t rfl (br_t rfl (br_t rfl (And.intro hs_25 (br_t rfl (br_t rfl (br_t rfl (br_t (by rw [hs_c0, h]) hp))))))))))))
theorem hs_sortN {post : Int32 → St2 → Prop} {a b : Int32} (ha : a = 24) (hb : b = 24) (hp : post 24 (f0, a1, a2, a3, a4, a5, a6, a7, a8, a9, a10, a11, a12, a13, a14, a15, a16, a17, a18, a19, a20, a21, a22, a23, a24, a25, a26, a27, a28, a29, a30, a31, a32)) : wpX_sortRows post (f0, a1, a2, a3, a4, a5, a6, a7, a8, a9, a10, a11, a12, a13, a14, a15, a16, a17, a18, a19, a20, a21, a22, a23, a24, a25, a26, a27, a28, a29, a30, a31, a32) a b :=
  Exists.intro (0 + 1) (br_t ha (br_t hb hp))
theorem hs_addRows0 {post : Int32 → St2 → Prop} {a b : Int32} (ha : a = 24) (hb : b = 0) (h : a15 0 = 24) (hp : post 0 (f0, a1, a2, a3, a4, a5, a6, a7, a8, a9, a10, a11, a12, a13, a14, a15, a16, a17, a18, a19, a20, a21, a22, a23, a24, a25, a26, a27, a28, a29, a30, a31, a32)) : wpX_addRows post (f0, a1, a2, a3, a4, a5, a6, a7, a8, a9, a10, a11, a12, a13, a14, a15, a16, a17, a18, a19, a20, a21, a22, a23, a24, a25, a26, a27, a28, a29, a30, a31, a32) a b :=
  hs_sort0 ha hb h (Exists.intro (0 + 1) (br_f (by decide) (And.intro hs_25 (br_t (by rw [hs_c0, h]) hp))))
theorem hs_addRowsN {post : Int32 → St2 → Prop} {a b : Int32} (ha : a = 24) (hb : b = 24) (hp : post 24 (f0, a1, a2, a3, a4, a5, a6, a7, a8, a9, a10, a11, a12, a13, a14, a15, a16, a17, a18, a19, a20, a21, a22, a23, a24, a25, a26, a27, a28, a29, a30, a31, a32)) : wpX_addRows post (f0, a1, a2, a3, a4, a5, a6, a7, a8, a9, a10, a11, a12, a13, a14, a15, a16, a17, a18, a19, a20, a21, a22, a23, a24, a25, a26, a27, a28, a29, a30, a31, a32) a b :=
  hs_sortN ha hb (Exists.intro (0 + 1) (br_t rfl hp))
theorem hs_addToRow {post : St2 → Prop} (hk : k < 4) (h13 : a13 0 = 0) (h10 : a10 k = 24) (hp : post (f0, a1, a2, a3, a4, a5, a6, a7, a8, a9, upd a10 k 0, upd a11 0 0, upd a12 0 0, upd a13 0 1, upd a14 0 24, upd a15 0 24, upd a16 0 24, upd a17 0 0, a18, a19, a20, a21, a22, a23, a24, a25, a26, a27, a28, a29, a30, a31, a32)) : wpX_addToRow post (f0, a1, a2, a3, a4, a5, a6, a7, a8, a9, a10, a11, a12, a13, a14, a15, a16, a17, a18, a19, a20, a21, a22, a23, a24, a25, a26, a27, a28, a29, a30, a31, a32) (nI k) 0 :=
  Exists.intro (0 + 1) (And.intro hs_25 (br_t (by rw [hs_c0, h13]) (And.intro hs_25 (nm_r (e' := upd a13 0 1) (by rw [hs_c0]) (hs_setItem
    (And.intro hs_25 (nm_r (e' := upd a14 0 24) (by rw [hs_c0]) (And.intro hs_25 (nm_r (e' := upd a15 0 24) (by rw [hs_c0]) (And.intro hs_25 (nm_r (e' := upd a16 0 24) (by rw [hs_c0]) (And.intro hs_25 (nm_r (e' := upd a17 0 0) (by rw [hs_c0])
      (And.intro (hs_k4 hk) (hs_addRows0 (by rw [hs_ck hk, h10]) rfl (by exact pk_us) (And.intro (hs_k4 hk) (nm_r (e' := upd a10 k 0) (by rw [hs_ck hk, hs_b0]) hp)))))))))))))))))
theorem hs_alone {post : St2 → Prop} (hp : post (f0, a1, a2, a3, a4, a5, a6, a7, a8, a9, a10, a11, a12, a13, a14, a15, a16, a17, a18, a19, upd a20 0 0, upd a21 0 0, a22, a23, a24, a25, a26, a27, a28, a29, a30, a31, a32)) : wpX_alone post (f0, a1, a2, a3, a4, a5, a6, a7, a8, a9, a10, a11, a12, a13, a14, a15, a16, a17, a18, a19, a20, a21, a22, a23, a24, a25, a26, a27, a28, a29, a30, a31, a32) 0 :=
  And.intro hs_25 (nm_r (e' := upd a20 0 0) (by rw [hs_c0, hs_b0]) (And.intro hs_25 (nm_r (e' := upd a21 0 0) (by rw [hs_c0, hs_b0]) hp)))
theorem hs_addRoot {post : St2 → Prop} (hk : k < 4) (h18 : a18 k = 24) (hp : post (f0, a1, a2, a3, a4, a5, a6, a7, a8, a9, a10, a11, a12, a13, a14, a15, a16, a17, upd a18 k 0, a19, a20, a21, upd a22 0 24, a23, a24, a25, a26, a27, a28, a29, a30, a31, a32)) : wpX_addRoot post (f0, a1, a2, a3, a4, a5, a6, a7, a8, a9, a10, a11, a12, a13, a14, a15, a16, a17, a18, a19, a20, a21, a22, a23, a24, a25, a26, a27, a28, a29, a30, a31, a32) (nI k) 0 :=
  And.intro hs_25 (nm_r (e' := upd a22 0 24) (by rw [hs_c0]) (And.intro (hs_k4 hk) (br_t (by rw [hs_ck hk, h18]) (And.intro (hs_k4 hk) (nm_r (e' := upd a18 k 0) (by rw [hs_ck hk, hs_b0]) hp)))))
theorem hs_addToRing {post : St2 → Prop} (hk : k < 4) (h18 : a18 k = 24) (hp : post (f0, a1, a2, a3, a4, a5, a6, a7, a8, a9, a10, a11, a12, a13, a14, a15, a16, a17, upd a18 k 0, upd a19 0 24, upd a20 0 0, upd a21 0 0, upd a22 0 24, upd a23 0 0, upd a24 0 0, a25, a26, a27, a28, a29, a30, a31, a32)) : wpX_addToRing post (f0, a1, a2, a3, a4, a5, a6, a7, a8, a9, a10, a11, a12, a13, a14, a15, a16, a17, a18, a19, a20, a21, a22, a23, a24, a25, a26, a27, a28, a29, a30, a31, a32) (nI k) 0 :=
  And.intro hs_25 (nm_r (e' := upd a19 0 24) (by rw [hs_c0]) (And.intro hs_25 (nm_r (e' := upd a23 0 0) (by rw [hs_c0]) (And.intro hs_25 (nm_r (e' := upd a24 0 0) (by rw [hs_c0])
    (hs_alone (hs_addRoot hk h18 hp)))))))
/-- which place of leanRoot: r, for base b -/
def hs_R (b r k : Nat) : Prop := (b = 0 ∧ r = k) ∨ (b = 25 ∧ r = 4 + k)
theorem hs_root {post : Int32 → Prop} {b r : Nat} (hr : hs_R b r k) (hp : post (nI r)) : wpX_rootPlace post (f0, a1, a2, a3, a4, a5, a6, a7, a8, a9, a10, a11, a12, a13, a14, a15, a16, a17, a18, a19, a20, a21, a22, a23, a24, a25, a26, a27, a28, a29, a30, a31, a32) (nI b) (nI k) := by
  rcases hr with ⟨rfl, rfl⟩ | ⟨rfl, rfl⟩
  · exact br_t rfl hp
  · exact br_f (by decide) (by rw [hs_4]; exact hp)
theorem hs_Rb {b r : Nat} (hr : hs_R b r k) : b < 26 := by
  rcases hr with ⟨rfl, rfl⟩ | ⟨rfl, rfl⟩ <;> omega
theorem hs_Rr {b r : Nat} (hk : k < 4) (hr : hs_R b r k) : r < 8 := by
  rcases hr with ⟨rfl, rfl⟩ | ⟨rfl, rfl⟩ <;> omega
theorem hs_melt {post : Int32 → St2 → Prop} {b j : Nat} {x y : Int32} (hx : x = 24) (hy : y = nI j) (hb : b + j < 50) (hp : post (nI j) (0, a1, a2, a3, a4, a5, a6, a7, a8, a9, a10, a11, a12, a13, a14, a15, a16, a17, a18, a19, a20, a21, a22, a23, a24, a25, a26, a27, a28, upd a29 (b + j) 24, a30, a31, a32)) : wpX_melt post (f0, a1, a2, a3, a4, a5, a6, a7, a8, a9, a10, a11, a12, a13, a14, a15, a16, a17, a18, a19, a20, a21, a22, a23, a24, a25, a26, a27, a28, a29, a30, a31, a32) (nI b) x y := by
  subst hy
  exact Exists.intro (0 + 1) (br_t hx (br_t hx (Exists.intro (0 + 1) (br_t (by decide) (And.intro (pk_in (b + j) 50 hb (nI_add b j)) (nm_r (e' := upd a29 (b + j) 24) (by rw [nI_add, nI_clamp (by omega)]) hp))))))
theorem hs_setLean0 {post : St2 → Prop} {b r : Nat} (hk : k < 4) (hr : hs_R b r k) (hp : post (f0, a1, a2, a3, a4, a5, a6, a7, a8, a9, a10, a11, a12, a13, a14, a15, a16, a17, a18, a19, a20, a21, a22, a23, a24, a25, upd a26 r 0, a27, a28, upd a29 b 24, a30, a31, a32)) : wpX_setLean post (f0, a1, a2, a3, a4, a5, a6, a7, a8, a9, a10, a11, a12, a13, a14, a15, a16, a17, a18, a19, a20, a21, a22, a23, a24, a25, a26, a27, a28, a29, a30, a31, a32) (nI b) (nI k) (nI 0) :=
  by
  have h1 := hs_Rb hr
  have h2 := hs_Rr hk hr
  unfold wpX_setLean
  refine hs_root hr ?_
  exact And.intro (pk_in r 8 h2) (nm_r (e' := upd a26 r 0) (by rw [nI_clamp (by omega)]; exact congrArg _ hs_b0) (br_f (by decide)
    (And.intro (pk_in b 50 (by omega) (nI_add b 0)) (nm_r (e' := upd a29 b 24) (by rw [nI_add, nI_clamp (by omega)]; rfl) hp))))
theorem hs_setLeanN {post : St2 → Prop} {b r : Nat} (hk : k < 4) (hr : hs_R b r k) (hp : post (f0, a1, a2, a3, a4, a5, a6, a7, a8, a9, a10, a11, a12, a13, a14, a15, a16, a17, a18, a19, a20, a21, a22, a23, a24, a25, upd a26 r 24, a27, a28, a29, a30, a31, a32)) : wpX_setLean post (f0, a1, a2, a3, a4, a5, a6, a7, a8, a9, a10, a11, a12, a13, a14, a15, a16, a17, a18, a19, a20, a21, a22, a23, a24, a25, a26, a27, a28, a29, a30, a31, a32) (nI b) (nI k) (nI 24) :=
  by
  have h2 := hs_Rr hk hr
  unfold wpX_setLean
  refine hs_root hr ?_
  exact And.intro (pk_in r 8 h2) (nm_r (e' := upd a26 r 24) (by rw [nI_clamp (by omega)]; exact congrArg _ hs_b24) (br_t rfl hp))
theorem hs_addToLean {post : St2 → Prop} {b r : Nat} (hk : k < 4) (hr : hs_R b r k) (h26 : a26 r = 24) (hp : post (0, a1, a2, a3, a4, a5, a6, a7, a8, a9, a10, a11, a12, a13, a14, a15, a16, a17, a18, a19, a20, a21, a22, a23, a24, a25, upd a26 r 0, upd a27 b 24, upd a28 b 24, upd (upd (upd a29 b 24) b 24) b 24, upd a30 b 1, a31, a32)) : wpX_addToLean post (f0, a1, a2, a3, a4, a5, a6, a7, a8, a9, a10, a11, a12, a13, a14, a15, a16, a17, a18, a19, a20, a21, a22, a23, a24, a25, a26, a27, a28, a29, a30, a31, a32) (nI b) (nI k) 0 :=
  have h1 := hs_Rb hr
  have h2 := hs_Rr hk hr
  have i1 : vp_in (nI b + 0) 50 := pk_in b 50 (by omega) (hs_p0 b)
  have i2 : (nI b + 0).toNatClampNeg = b := pk_cl b (hs_p0 b) (by omega)
  And.intro i1 (nm_r (e' := upd a27 b 24) (by rw [i2]) (And.intro i1 (nm_r (e' := upd a28 b 24) (by rw [i2]) (And.intro i1 (nm_r (e' := upd a29 b 24) (by rw [i2]) (And.intro i1 (nm_r (e' := upd a30 b 1) (by rw [i2])
    (hs_root hr (And.intro (pk_in r 8 h2) (hs_melt (j := 0) (by rw [nI_clamp (by omega), h26]) rfl (by omega) (hs_setLean0 hk hr hp)))))))))))
theorem hs_better {post : Int32 → Prop} {x y v : Int32} (hv : v = 0 ∨ v = 24) (hx : x = v) (hy : y = 24) (hp : post v) : wpX_better post (f0, a1, a2, a3, a4, a5, a6, a7, a8, a9, a10, a11, a12, a13, a14, a15, a16, a17, a18, a19, a20, a21, a22, a23, a24, a25, a26, a27, a28, a29, a30, a31, a32) x y := by
  subst hx hy
  rcases hv with rfl | rfl
  · exact br_f (by decide) (br_t rfl (br_f (by decide) hp))
  · exact br_t rfl (br_t rfl hp)
theorem hs_playStep {post : St2 → Prop} {n i : Nat} {v : Int32} (hk : k < 4) (h1 : 1 ≤ i) (h16 : i ≤ 16) (hv : v = 0 ∨ v = 24) (he : a31 (k * 64 + 2 * i) = v) (ho : a31 (k * 64 + 2 * i + 1) = 24)
    (hp : wX_play_29 post (nI k) f0 n (nI i) a1 a2 a3 a4 a5 a6 a7 a8 a9 a10 a11 a12 a13 a14 a15 a16 a17 a18 a19 a20 a21 a22 a23 a24 a25 a26 a27 a28 a29 a30 (upd a31 (k * 64 + i) v) a32) : wX_play_29 post (nI k) f0 (n + 1) (nI (2 * i)) a1 a2 a3 a4 a5 a6 a7 a8 a9 a10 a11 a12 a13 a14 a15 a16 a17 a18 a19 a20 a21 a22 a23 a24 a25 a26 a27 a28 a29 a30 a31 a32 :=
  br_f (nI_ge (a := 1) (b := 2 * i) (by omega) (by omega)) (And.intro (by decide) (nm_r (e' := nI i) (hs_half i h16)
    (And.intro (pk_in (k * 64 + 2 * i) 256 (by omega) (hs_i64a k i)) (And.intro (pk_in (k * 64 + 2 * i + 1) 256 (by omega) (hs_i64b k i))
      (hs_better hv (by rw [hs_i64a, nI_clamp (by omega), he]) (by rw [hs_i64b, nI_clamp (by omega), ho])
        (And.intro (pk_in (k * 64 + i) 256 (by omega) (hs_i64 k i)) (nm_r (e' := upd a31 (k * 64 + i) v) (by rw [hs_i64, nI_clamp (by omega), hs_bv hv]) hp)))))))
/-- the winners along the path of item 0 -/
def hs_w (f : Nat → Int32) (k : Nat) (v : Int32) : Nat → Int32 :=
  upd (upd (upd (upd (upd (upd f (k * 64 + 32) v) (k * 64 + 16) v) (k * 64 + 8) v) (k * 64 + 4) v) (k * 64 + 2) v) (k * 64 + 1) v
/-- beside the path nobody plays -/
def hs_O (f : Nat → Int32) (k : Nat) : Prop :=
  f (k * 64 + 33) = 24 ∧ f (k * 64 + 17) = 24 ∧ f (k * 64 + 9) = 24 ∧ f (k * 64 + 5) = 24 ∧ f (k * 64 + 3) = 24
theorem hs_play29 {post : St2 → Prop} {v : Int32} (hk : k < 4) (hv : v = 0 ∨ v = 24) (ho : hs_O a31 k) (hp : post (f0, a1, a2, a3, a4, a5, a6, a7, a8, a9, a10, a11, a12, a13, a14, a15, a16, a17, a18, a19, a20, a21, a22, a23, a24, a25, a26, a27, a28, a29, a30, hs_w a31 k v, a32)) :
    ∃ n, wX_play_29 post (nI k) f0 n (nI 32) a1 a2 a3 a4 a5 a6 a7 a8 a9 a10 a11 a12 a13 a14 a15 a16 a17 a18 a19 a20 a21 a22 a23 a24 a25 a26 a27 a28 a29 a30 (upd a31 (k * 64 + 32) v) a32 := by
  obtain ⟨o1, o2, o3, o4, o5⟩ := ho
  refine Exists.intro (0 + 1 + 1 + 1 + 1 + 1 + 1) ?_
  refine hs_playStep (i := 16) hk (by omega) (by omega) hv (by simp [upd]) (by simp [upd, o1]) ?_
  refine hs_playStep (i := 8) hk (by omega) (by omega) hv (by simp [upd]) (by simp [upd, o2]) ?_
  refine hs_playStep (i := 4) hk (by omega) (by omega) hv (by simp [upd]) (by simp [upd, o3]) ?_
  refine hs_playStep (i := 2) hk (by omega) (by omega) hv (by simp [upd]) (by simp [upd, o4]) ?_
  refine hs_playStep (i := 1) hk (by omega) (by omega) hv (by simp [upd]) (by simp [upd, o5]) ?_
  exact br_t (by decide) hp
theorem hs_play1 {post : St2 → Prop} (hk : k < 4) (ho : hs_O a31 k) (hp : post (f0, a1, a2, a3, a4, a5, a6, a7, a8, a9, a10, a11, a12, a13, a14, a15, a16, a17, a18, a19, a20, a21, a22, a23, a24, a25, a26, a27, a28, a29, a30, hs_w a31 k 0, a32)) : wpX_play post (f0, a1, a2, a3, a4, a5, a6, a7, a8, a9, a10, a11, a12, a13, a14, a15, a16, a17, a18, a19, a20, a21, a22, a23, a24, a25, a26, a27, a28, a29, a30, a31, a32) (nI k) 0 1 :=
  nm_r (e' := nI 32) (by decide) (br_f (by decide) (And.intro (pk_in (k * 64 + 32) 256 (by omega) (hs_i64 k 32)) (nm_r (e' := upd a31 (k * 64 + 32) 0) (by rw [hs_i64, nI_clamp (by omega), hs_b0]) (hs_play29 hk (Or.inl rfl) ho hp))))
theorem hs_play0 {post : St2 → Prop} (hk : k < 4) (ho : hs_O a31 k) (hp : post (f0, a1, a2, a3, a4, a5, a6, a7, a8, a9, a10, a11, a12, a13, a14, a15, a16, a17, a18, a19, a20, a21, a22, a23, a24, a25, a26, a27, a28, a29, a30, hs_w a31 k 24, a32)) : wpX_play post (f0, a1, a2, a3, a4, a5, a6, a7, a8, a9, a10, a11, a12, a13, a14, a15, a16, a17, a18, a19, a20, a21, a22, a23, a24, a25, a26, a27, a28, a29, a30, a31, a32) (nI k) 0 0 :=
  nm_r (e' := nI 32) (by decide) (br_t rfl (And.intro (pk_in (k * 64 + 32) 256 (by omega) (hs_i64 k 32)) (nm_r (e' := upd a31 (k * 64 + 32) 24) (by rw [hs_i64, nI_clamp (by omega), hs_b24]) (hs_play29 hk (Or.inr rfl) ho hp))))
theorem hs_putIn {post : St2 → Prop} (hk : k < 4) (h3 : a3 k = 0) (h6 : a6 k = 24) (h10 : a10 k = 24) (h13 : a13 0 = 0) (h18 : a18 k = 24) (h26 : a26 k = 24) (h26' : a26 (4 + k) = 24) (ho : hs_O a31 k)
    (hp : post (0, a1, upd a2 0 (nI k), upd a3 k 1, upd (upd a4 (k * 24) 0) (k * 24) 0, upd (upd a5 0 0) 0 0, upd a6 k 0, upd a7 0 24, upd a8 0 24, upd a9 0 24, upd a10 k 0, upd a11 0 0, upd a12 0 0, upd a13 0 1, upd a14 0 24, upd a15 0 24, upd a16 0 24, upd a17 0 0, upd a18 k 0, upd a19 0 24, upd a20 0 0, upd a21 0 0, upd a22 0 24, upd a23 0 0, upd a24 0 0, a25, upd (upd a26 k 0) (4 + k) 0, upd (upd a27 0 24) 25 24, upd (upd a28 0 24) 25 24, upd (upd (upd (upd (upd (upd a29 0 24) 0 24) 0 24) 25 24) 25 24) 25 24, upd (upd a30 0 1) 25 1, hs_w a31 k 0, a32)) : wpX_putIn post (f0, a1, a2, a3, a4, a5, a6, a7, a8, a9, a10, a11, a12, a13, a14, a15, a16, a17, a18, a19, a20, a21, a22, a23, a24, a25, a26, a27, a28, a29, a30, a31, a32) (nI k) 0 := by
  refine And.intro (hs_k4 hk) ?_
  refine hs_addToArray hk (by rw [hs_ck hk, h3]) ?_
  refine hs_addToPairs hk h6 ?_
  refine hs_addToRow hk h13 h10 ?_
  refine hs_addToRing hk h18 ?_
  refine hs_addToLean (b := 0) (r := k) hk (Or.inl ⟨rfl, rfl⟩) h26 ?_
  refine hs_addToLean (b := 25) (r := 4 + k) hk (Or.inr ⟨rfl, rfl⟩) (by rw [pk_un (by omega)]; exact h26') ?_
  refine hs_play1 hk ho ?_
  exact And.intro hs_24 (nm_r (e' := upd a2 0 (nI k)) (by rw [hs_c0, hs_bk hk]) (And.intro (hs_k4 hk) (And.intro (hs_k4 hk) (nm_r (e' := upd a3 k 1) (by rw [hs_ck hk, h3]; exact congrArg _ (by decide)) hp))))
end
end
section
/-! the maker and insert -/
section
variable {f0 : Int32} {a1 a2 a3 a4 a5 a6 a7 a8 a9 a10 a11 a12 a13 a14 a15 a16 a17 a18 a19 a20 a21 a22 a23 a24 a25 a26 a27 a28 a29 a30 a31 a32 : Nat → Int32} {k : Nat}
/-- an object without items -/
def hs_Fresh (a2 a3 a6 a10 a13 a18 a26 a31 : Nat → Int32) : Prop :=
  a2 0 = -1 ∧ a13 0 = 0 ∧ (∀ j, j < 4 → a3 j = 0 ∧ a6 j = 24 ∧ a10 j = 24 ∧ a18 j = 24 ∧ a26 j = 24 ∧ a26 (4 + j) = 24) ∧ (∀ j, j < 256 → a31 j = 24)
theorem hs_fill {s : Nat → Int32} {i q : Nat} {v : Int32} (hq : q = i) (h : ∀ j, j < i → s j = v) : ∀ j, j < i + 1 → upd s q v j = v := by
  intro j hj
  rw [hq]
  by_cases e : j = i
  · rw [e, pk_us]
  · rw [pk_un e]
    exact h j (by omega)
theorem hs_init335 {post : St2 → Prop} {mc ms kc ks : Nat} (H : ∀ s : Nat → Int32, (∀ j, j < 256 → s j = 24) → post (f0, a1, a2, a3, a4, a5, a6, a7, a8, a9, a10, a11, a12, upd a13 24 1, a14, a15, a16, a17, a18, a19, a20, a21, a22, a23, a24, a25, a26, a27, a28, a29, a30, s, a32)) : ∃ n, wX_init_335 post mc ms kc ks f0 n 0 a1 a2 a3 a4 a5 a6 a7 a8 a9 a10 a11 a12 a13 a14 a15 a16 a17 a18 a19 a20 a21 a22 a23 a24 a25 a26 a27 a28 a29 a30 a31 a32 :=
  pk_loop (fun n i s => wX_init_335 post mc ms kc ks f0 n (nI i) a1 a2 a3 a4 a5 a6 a7 a8 a9 a10 a11 a12 a13 a14 a15 a16 a17 a18 a19 a20 a21 a22 a23 a24 a25 a26 a27 a28 a29 a30 s a32) (fun i s => ∀ j, j < i → s j = 24) 256 0 a31 (by omega) (fun j hj => absurd hj (by omega))
    (fun n s h => pk_le 256 256 (fun _ => nm_e (H s h)) (fun z => absurd z (by omega)))
    (fun n i s hi h hw => pk_le 256 i (fun z => absurd z (by omega)) (fun _ => And.intro (pk_in i 256 (by omega)) (nm_e (nm_r (nI_1 i) (hw _ (hs_fill (nI_clamp (by omega)) h))))))
def hs_I4 (i : Nat) (s : (Nat → Int32) × (Nat → Int32) × (Nat → Int32) × (Nat → Int32)) : Prop :=
  (∀ j, j < i → s.1 j = 24) ∧ (∀ j, j < i → s.2.1 j = 24) ∧ (∀ j, j < i → s.2.2.1 j = 24) ∧ (∀ j, j < i → s.2.2.2 j = 24 ∧ s.2.2.2 (4 + j) = 24)
theorem hs_fill8 {s : Nat → Int32} {i q r : Nat} (hi : i < 4) (hq : q = i) (hr : r = 4 + i) (h : ∀ j, j < i → s j = 24 ∧ s (4 + j) = 24) : ∀ j, j < i + 1 → upd (upd s q 24) r 24 j = 24 ∧ upd (upd s q 24) r 24 (4 + j) = 24 := by
  intro j hj
  rw [hq, hr, pk_un (show j ≠ 4 + i by omega)]
  by_cases e : j = i
  · rw [e, pk_us, pk_us]
    exact ⟨rfl, rfl⟩
  · rw [pk_un e, pk_un (show 4 + j ≠ 4 + i by omega), pk_un (show 4 + j ≠ i by omega)]
    exact h j (by omega)
theorem hs_init280 {post : St2 → Prop} {mc ms kc ks : Nat} (H : ∀ s6 s10 s18 s26 s31 : Nat → Int32, (∀ j, j < 4 → s6 j = 24) → (∀ j, j < 4 → s10 j = 24) → (∀ j, j < 4 → s18 j = 24) → (∀ j, j < 4 → s26 j = 24 ∧ s26 (4 + j) = 24) → (∀ j, j < 256 → s31 j = 24) → post (f0, a1, a2, a3, a4, a5, s6, a7, a8, a9, s10, a11, a12, upd a13 24 1, a14, a15, a16, a17, s18, a19, a20, a21, a22, a23, a24, a25, s26, a27, a28, a29, a30, s31, a32)) : ∃ n, wX_init_280 post mc ms kc ks f0 n 0 a1 a2 a3 a4 a5 a6 a7 a8 a9 a10 a11 a12 a13 a14 a15 a16 a17 a18 a19 a20 a21 a22 a23 a24 a25 a26 a27 a28 a29 a30 a31 a32 :=
  pk_loop (fun n i s => wX_init_280 post mc ms kc ks f0 n (nI i) a1 a2 a3 a4 a5 s.1 a7 a8 a9 s.2.1 a11 a12 a13 a14 a15 a16 a17 s.2.2.1 a19 a20 a21 a22 a23 a24 a25 s.2.2.2 a27 a28 a29 a30 a31 a32) hs_I4 4 0 (a6, a10, a18, a26) (by omega) ⟨fun j hj => absurd hj (by omega), fun j hj => absurd hj (by omega), fun j hj => absurd hj (by omega), fun j hj => absurd hj (by omega)⟩
    (fun n s h => pk_le 4 4 (fun _ => hs_init335 (fun t ht => H _ _ _ _ t h.1 h.2.1 h.2.2.1 h.2.2.2 ht)) (fun z => absurd z (by omega)))
    (fun n i s hi h hw => pk_le 4 i (fun z => absurd z (by omega)) (fun _ => And.intro (pk_in i 4 hi) (nm_e (And.intro (pk_in i 4 hi) (nm_e (And.intro (pk_in i 4 hi) (nm_e (And.intro (pk_in i 8 (by omega)) (nm_e (And.intro (pk_in (4 + i) 8 (by omega) (hs_4 i)) (nm_e (nm_r (nI_1 i)
      (hw (_, _, _, _) ⟨hs_fill (nI_clamp (by omega)) h.1, hs_fill (nI_clamp (by omega)) h.2.1, hs_fill (nI_clamp (by omega)) h.2.2.1, hs_fill8 hi (nI_clamp (by omega)) (by rw [hs_4, nI_clamp (by omega)]) h.2.2.2⟩)))))))))))))
theorem hs_init259 {post : St2 → Prop} {mc ms kc ks : Nat} (H : ∀ s2 s6 s10 s18 s26 s31 : Nat → Int32, (∀ j, j < 24 → s2 j = -1) → (∀ j, j < 4 → s6 j = 24) → (∀ j, j < 4 → s10 j = 24) → (∀ j, j < 4 → s18 j = 24) → (∀ j, j < 4 → s26 j = 24 ∧ s26 (4 + j) = 24) → (∀ j, j < 256 → s31 j = 24) → post (f0, a1, s2, a3, a4, a5, s6, a7, a8, a9, s10, a11, a12, upd a13 24 1, a14, a15, a16, a17, s18, a19, a20, a21, a22, a23, a24, a25, s26, a27, a28, a29, a30, s31, a32)) : ∃ n, wX_init_259 post mc ms kc ks f0 n 0 a1 a2 a3 a4 a5 a6 a7 a8 a9 a10 a11 a12 a13 a14 a15 a16 a17 a18 a19 a20 a21 a22 a23 a24 a25 a26 a27 a28 a29 a30 a31 a32 :=
  pk_loop (fun n i s => wX_init_259 post mc ms kc ks f0 n (nI i) a1 s a3 a4 a5 a6 a7 a8 a9 a10 a11 a12 a13 a14 a15 a16 a17 a18 a19 a20 a21 a22 a23 a24 a25 a26 a27 a28 a29 a30 a31 a32) (fun i s => ∀ j, j < i → s j = -1) 24 0 a2 (by omega) (fun j hj => absurd hj (by omega))
    (fun n s h => pk_le 24 24 (fun _ => hs_init280 (fun s6 s10 s18 s26 s31 => H s s6 s10 s18 s26 s31 h)) (fun z => absurd z (by omega)))
    (fun n i s hi h hw => pk_le 24 i (fun z => absurd z (by omega)) (fun _ => And.intro (pk_in i 24 (by omega)) (nm_e (nm_r (nI_1 i) (hw _ (hs_fill (nI_clamp (by omega)) h))))))
theorem hs_init {post : St2 → Prop} (H : ∀ (f0 : Int32) (a1 a2 a3 a4 a5 a6 a7 a8 a9 a10 a11 a12 a13 a14 a15 a16 a17 a18 a19 a20 a21 a22 a23 a24 a25 a26 a27 a28 a29 a30 a31 a32 : Nat → Int32), hs_Fresh a2 a3 a6 a10 a13 a18 a26 a31 → post (f0, a1, a2, a3, a4, a5, a6, a7, a8, a9, a10, a11, a12, a13, a14, a15, a16, a17, a18, a19, a20, a21, a22, a23, a24, a25, a26, a27, a28, a29, a30, a31, a32)) : wpX_init post 32 1119 0 := by
  unfold wpX_init
  iterate 64 refine And.intro (by decide) ?_
  refine hs_init259 (fun s2 s6 s10 s18 s26 s31 h2 h6 h10 h18 h26 h31 => ?_)
  refine H _ _ _ _ _ _ _ _ _ _ _ _ _ _ _ _ _ _ _ _ _ _ _ _ _ _ _ _ _ _ _ _ _ ⟨h2 0 (by omega), rfl, fun j hj => ⟨rfl, h6 j hj, h10 j hj, h18 j hj, (h26 j hj).1, (h26 j hj).2⟩, h31⟩
theorem hs_OF (hk : k < 4) {f : Nat → Int32} (h : ∀ j, j < 256 → f j = 24) : hs_O f k :=
  ⟨h _ (by omega), h _ (by omega), h _ (by omega), h _ (by omega), h _ (by omega)⟩
/-- the queue k holds item 0 alone, all others are empty; what each engine shows -/
def hs_View (mi : Nat → Prop) (a3 a4 a6 a10 a11 a15 a18 a26 a31 : Nat → Int32) : Prop :=
  ∀ j, j < 4 → (mi j → a3 j = 1 ∧ a4 (j * 24) = 0 ∧ a6 j = 0 ∧ a10 j = 0 ∧ a11 0 = 0 ∧ a15 0 = 24 ∧ a18 j = 0 ∧ a26 j = 0 ∧ a26 (4 + j) = 0 ∧ a31 (j * 64 + 1) = 0)
    ∧ (¬ mi j → a3 j = 0 ∧ a6 j = 24 ∧ a10 j = 24 ∧ a18 j = 24 ∧ a26 j = 24 ∧ a26 (4 + j) = 24 ∧ a31 (j * 64 + 1) = 24)
/-- the winners of queue k: item 0 along its path, beside it nobody -/
def hs_Z (f : Nat → Int32) (k : Nat) : Prop :=
  f (k * 64 + 32) = 0 ∧ f (k * 64 + 16) = 0 ∧ f (k * 64 + 8) = 0 ∧ f (k * 64 + 4) = 0 ∧ f (k * 64 + 2) = 0 ∧ f (k * 64 + 1) = 0
/-- item 0 in queue k, where its nodes point to -/
def hs_One (k : Nat) (a2 a5 a7 a12 a14 a16 a19 a20 a21 a22 a27 a28 a29 a31 : Nat → Int32) : Prop :=
  a2 0 = nI k ∧ a5 0 = 0 ∧ a7 0 = 24 ∧ a12 0 = 0 ∧ a14 0 = 24 ∧ a16 0 = 24 ∧ a19 0 = 24 ∧ a20 0 = 0 ∧ a21 0 = 0 ∧ a22 0 = 24 ∧ (a27 0 = 24 ∧ a27 25 = 24) ∧ (a28 0 = 24 ∧ a28 25 = 24) ∧ (a29 0 = 24 ∧ a29 25 = 24) ∧ hs_O a31 k ∧ hs_Z a31 k
theorem hs_freshView (F : hs_Fresh a2 a3 a6 a10 a13 a18 a26 a31) : hs_View (fun _ => False) a3 a4 a6 a10 a11 a15 a18 a26 a31 := by
  obtain ⟨_, _, h, h31⟩ := F
  intro j hj
  obtain ⟨h3, h6, h10, h18, h26, h26'⟩ := h j hj
  exact ⟨fun z => z.elim, fun _ => ⟨h3, h6, h10, h18, h26, h26', h31 _ (by omega)⟩⟩
theorem hs_wO {f : Nat → Int32} {v : Int32} (h : hs_O f k) : hs_O (hs_w f k v) k := by
  obtain ⟨o1, o2, o3, o4, o5⟩ := h
  refine ⟨?_, ?_, ?_, ?_, ?_⟩ <;> simp [hs_w, upd, o1, o2, o3, o4, o5]
theorem hs_wZ {f : Nat → Int32} : hs_Z (hs_w f k 0) k := by
  refine ⟨?_, ?_, ?_, ?_, ?_, ?_⟩ <;> simp [hs_w, upd]
theorem hs_wn {f : Nat → Int32} {j : Nat} {v : Int32} (h : j ≠ k) : hs_w f k v (j * 64 + 1) = f (j * 64 + 1) := by
  unfold hs_w
  rw [pk_un (by omega), pk_un (by omega), pk_un (by omega), pk_un (by omega), pk_un (by omega), pk_un (by omega)]
theorem hs_insert {post : Int32 → St2 → Prop} {key : Int32} (hk : k < 4) (h1 : ¬ key < (-999)) (h2 : ¬ 999 < key) (F : hs_Fresh a2 a3 a6 a10 a13 a18 a26 a31)
    (H : ∀ (f0 : Int32) (a1 a2 a3 a4 a5 a6 a7 a8 a9 a10 a11 a12 a13 a14 a15 a16 a17 a18 a19 a20 a21 a22 a23 a24 a25 a26 a27 a28 a29 a30 a31 a32 : Nat → Int32), a1 0 = key → hs_One k a2 a5 a7 a12 a14 a16 a19 a20 a21 a22 a27 a28 a29 a31 → hs_View (fun j => j = k) a3 a4 a6 a10 a11 a15 a18 a26 a31 → post 0 (f0, a1, a2, a3, a4, a5, a6, a7, a8, a9, a10, a11, a12, a13, a14, a15, a16, a17, a18, a19, a20, a21, a22, a23, a24, a25, a26, a27, a28, a29, a30, a31, a32)) : wpX_insert post (f0, a1, a2, a3, a4, a5, a6, a7, a8, a9, a10, a11, a12, a13, a14, a15, a16, a17, a18, a19, a20, a21, a22, a23, a24, a25, a26, a27, a28, a29, a30, a31, a32) (nI k) key := by
  obtain ⟨g2, g13, h, h31⟩ := F
  obtain ⟨g3, g6, g10, g18, g26, g26'⟩ := h k hk
  have ho := hs_OF hk h31
  refine br_f (nI_pos (by omega)) (br_f (nI_ge (b := 4) hk (by omega)) (br_f (by decide) (br_f h1 (br_f h2 (br_f (by decide) (Exists.intro (0 + 1) (br_f (by decide) (And.intro hs_24 (br_f (by rw [hs_c0, g2]; decide) (And.intro hs_24 (nm_r (e' := upd a1 0 key) (by rw [hs_c0, hs_short h1 h2]) ?_)))))))))))
  refine hs_putIn hk g3 g6 g10 g13 g18 g26 g26' ho ?_
  refine H _ _ _ _ _ _ _ _ _ _ _ _ _ _ _ _ _ _ _ _ _ _ _ _ _ _ _ _ _ _ _ _ _ (by simp [upd]) ?_ ?_
  · refine ⟨by simp [upd], by simp [upd], by simp [upd], by simp [upd], by simp [upd], by simp [upd], by simp [upd], by simp [upd], by simp [upd], by simp [upd], ⟨by simp [upd], by simp [upd]⟩, ⟨by simp [upd], by simp [upd]⟩, ⟨by simp [upd], by simp [upd]⟩, hs_wO ho, hs_wZ⟩
  · intro j hj
    refine ⟨fun e => ?_, fun n => ?_⟩
    · have e : j = k := e
      subst e
      exact ⟨pk_us, pk_us, pk_us, pk_us, pk_us, pk_us, pk_us, by rw [pk_un (by omega), pk_us], pk_us, hs_wZ.2.2.2.2.2⟩
    · have n : j ≠ k := n
      obtain ⟨f3, f6, f10, f18, f26, f26'⟩ := h j hj
      exact ⟨by rw [pk_un n, f3], by rw [pk_un n, f6], by rw [pk_un n, f10], by rw [pk_un n, f18], by rw [pk_un (by omega), pk_un n, f26], by rw [pk_un (by omega), pk_un (by omega), f26'], by rw [hs_wn n, h31 _ (by omega)]⟩
theorem hs_insertBad {post : Int32 → St2 → Prop} {q key : Int32} (hb : ¬ (¬ q < 0 ∧ ¬ 3 < q ∧ ¬ key < (-999) ∧ ¬ 999 < key)) (hp : post (-1000) (f0, a1, a2, a3, a4, a5, a6, a7, a8, a9, a10, a11, a12, a13, a14, a15, a16, a17, a18, a19, a20, a21, a22, a23, a24, a25, a26, a27, a28, a29, a30, a31, a32)) : wpX_insert post (f0, a1, a2, a3, a4, a5, a6, a7, a8, a9, a10, a11, a12, a13, a14, a15, a16, a17, a18, a19, a20, a21, a22, a23, a24, a25, a26, a27, a28, a29, a30, a31, a32) q key := by
  rcases pk_ix q (n := 4) (by omega) with h | h | ⟨j, hj, rfl⟩
  · exact br_t h (br_t rfl hp)
  · exact br_f (hs_npos (by omega) h) (br_t h (br_t rfl hp))
  · refine br_f (nI_pos (by omega)) (br_f (nI_ge (b := 4) hj (by omega)) (br_f (by decide) ?_))
    by_cases c1 : key < (-999)
    · exact br_t c1 (br_t rfl hp)
    · by_cases c2 : 999 < key
      · exact br_f c1 (br_t c2 (br_t rfl hp))
      · exact absurd ⟨nI_pos (by omega), hs_q3n hj, c1, c2⟩ hb
end
end
section
/-! first, size, queueOf -/
section
variable {f0 : Int32} {a1 a2 a3 a4 a5 a6 a7 a8 a9 a10 a11 a12 a13 a14 a15 a16 a17 a18 a19 a20 a21 a22 a23 a24 a25 a26 a27 a28 a29 a30 a31 a32 : Nat → Int32} {mi : Nat → Prop}
theorem hs_isQueue {post : Int32 → Prop} {p : Int32} (h0 : ¬ (¬ p < 0 ∧ ¬ 3 < p) → post 0) (h1 : ∀ j, j < 4 → p = nI j → post 1) : wpX_isQueue post () p := by
  rcases pk_ix p (n := 4) (by omega) with h | h | ⟨j, hj, rfl⟩
  · exact br_t h (h0 (fun z => z.1 h))
  · exact br_f (hs_npos (by omega) h) (br_t h (h0 (fun z => z.2 (hs_q3 h))))
  · exact br_f (nI_pos (by omega)) (br_f (nI_ge (b := 4) hj (by omega)) (h1 j hj rfl))
theorem hs_isEngine {post : Int32 → Prop} {e : Int32} (h0 : ¬ (¬ e < 0 ∧ e ≤ 6) → post 0) (h1 : ∀ j, j < 7 → e = nI j → post 1) : wpX_isEngine post () e := by
  rcases pk_ix e (n := 7) (by omega) with h | h | ⟨j, hj, rfl⟩
  · exact br_t h (h0 (fun z => z.1 h))
  · exact br_f (hs_npos (by omega) h) (br_t h (h0 (fun z => hs_e6 h z.2)))
  · exact br_f (nI_pos (by omega)) (br_f (nI_ge (b := 7) hj (by omega)) (h1 j hj rfl))
theorem hs_firstInRow {post : Int32 → Prop} {j : Nat} {v : Int32} (hj : j < 4) (h10 : a10 j = v) (hv : (v = 0 ∧ a11 0 = 0 ∧ a15 0 = 24) ∨ v = 24) (hp : post v) : wpX_firstInRow post (f0, a1, a2, a3, a4, a5, a6, a7, a8, a9, a10, a11, a12, a13, a14, a15, a16, a17, a18, a19, a20, a21, a22, a23, a24, a25, a26, a27, a28, a29, a30, a31, a32) (nI j) := by
  refine And.intro (hs_k4 hj) (nm_r (e' := v) (by rw [hs_ck hj, h10]) ?_)
  rcases hv with ⟨rfl, h11, h15⟩ | rfl
  · exact Exists.intro (0 + 1 + 1) (br_f (by decide) (br_t rfl (And.intro hs_25 (nm_r (e' := 0) (by rw [hs_c0, h11]) (And.intro hs_25 (nm_r (e' := 24) (by rw [hs_c0, h15]) (br_t rfl hp)))))))
  · exact Exists.intro (0 + 1) (br_t rfl hp)
theorem hs_firstOf {post : Int32 → Prop} {i j : Nat} (V : hs_View mi a3 a4 a6 a10 a11 a15 a18 a26 a31) (hi : i < 7) (hj : j < 4) (h0 : mi j → post 0) (h1 : ¬ mi j → post 24) : wpX_firstOf post (f0, a1, a2, a3, a4, a5, a6, a7, a8, a9, a10, a11, a12, a13, a14, a15, a16, a17, a18, a19, a20, a21, a22, a23, a24, a25, a26, a27, a28, a29, a30, a31, a32) (nI i) (nI j) := by
  have key : ∃ v : Int32, post v ∧ ((v = 0 ∧ a3 j = 1 ∧ a4 (j * 24) = 0 ∧ a11 0 = 0 ∧ a15 0 = 24) ∨ (v = 24 ∧ a3 j = 0)) ∧ a6 j = v ∧ a10 j = v ∧ a18 j = v ∧ a26 j = v ∧ a26 (4 + j) = v ∧ a31 (j * 64 + 1) = v := by
    by_cases m : mi j
    · obtain ⟨v3, v4, v6, v10, v11, v15, v18, v26, v26', v31⟩ := (V j hj).1 m
      exact ⟨0, h0 m, Or.inl ⟨rfl, v3, v4, v11, v15⟩, v6, v10, v18, v26, v26', v31⟩
    · obtain ⟨v3, v6, v10, v18, v26, v26', v31⟩ := (V j hj).2 m
      exact ⟨24, h1 m, Or.inr ⟨rfl, v3⟩, v6, v10, v18, v26, v26', v31⟩
  obtain ⟨v, hp, hc, v6, v10, v18, v26, v26', v31⟩ := key
  have e4 : (nI j).toNatClampNeg = j := hs_ck hj
  match i, hi with
  | 0, _ =>
    refine br_f (by decide) (br_f (by decide) (br_t rfl (And.intro (hs_k4 hj) ?_)))
    rcases hc with ⟨rfl, c3, c4, _, _⟩ | ⟨rfl, c3⟩
    · exact br_f (by rw [e4, c3]; decide) (And.intro (pk_in (j * 24) 96 (by omega) (hs_i24n j)) (ek_v (by rw [hs_i24n, nI_clamp (by omega), c4]) hp))
    · exact br_t (by rw [e4, c3]; decide) hp
  | 1, _ => exact br_f (by decide) (br_f (by decide) (br_f (by decide) (br_t rfl (And.intro (hs_k4 hj) (ek_v (by rw [e4, v6]) hp)))))
  | 2, _ =>
    refine br_f (by decide) (br_f (by decide) (br_f (by decide) (br_f (by decide) (br_t rfl (hs_firstInRow hj v10 ?_ hp)))))
    rcases hc with ⟨c, c3, c4, c11, c15⟩ | ⟨c, c3⟩
    · exact Or.inl ⟨c, c11, c15⟩
    · exact Or.inr c
  | 3, _ => exact br_f (by decide) (br_f (by decide) (br_f (by decide) (br_f (by decide) (br_f (by decide) (br_t rfl (And.intro (hs_k4 hj) (ek_v (by rw [e4, v18]) hp)))))))
  | 4, _ => exact br_f (by decide) (br_f (by decide) (br_f (by decide) (br_f (by decide) (br_f (by decide) (br_f (by decide) (br_t rfl (And.intro (pk_in j 8 (by omega)) (ek_v (by rw [e4, v26]) hp))))))))
  | 5, _ => exact br_f (by decide) (br_f (by decide) (br_f (by decide) (br_f (by decide) (br_f (by decide) (br_f (by decide) (br_f (by decide) (br_t rfl (And.intro (pk_in (4 + j) 8 (by omega) (hs_4 j)) (ek_v (by rw [hs_4, nI_clamp (by omega), v26']) hp)))))))))
  | 6, _ => exact br_f (by decide) (br_t (by decide) (And.intro (pk_in (j * 64 + 1) 256 (by omega) (hs_i64 j 1)) (ek_v (by rw [show nI j * 64 + 1 = nI (j * 64 + 1) from hs_i64 j 1, nI_clamp (by omega), v31]) hp)))
theorem hs_size {post : Int32 → Prop} {p : Int32} (V : hs_View mi a3 a4 a6 a10 a11 a15 a18 a26 a31) (hb : ¬ (¬ p < 0 ∧ ¬ 3 < p) → post (-1000)) (h0 : ∀ j, j < 4 → p = nI j → mi j → post 1) (h1 : ∀ j, j < 4 → p = nI j → ¬ mi j → post 0) : wpX_size post (f0, a1, a2, a3, a4, a5, a6, a7, a8, a9, a10, a11, a12, a13, a14, a15, a16, a17, a18, a19, a20, a21, a22, a23, a24, a25, a26, a27, a28, a29, a30, a31, a32) p :=
  by
  unfold wpX_size
  refine hs_isQueue (fun n => br_t rfl (hb n)) (fun j hj ej => br_f (by decide) ?_)
  subst ej
  refine And.intro (hs_k4 hj) ?_
  by_cases m : mi j
  · exact ek_v (by rw [hs_ck hj, ((V j hj).1 m).1]) (h0 j hj rfl m)
  · exact ek_v (by rw [hs_ck hj, ((V j hj).2 m).1]) (h1 j hj rfl m)
theorem hs_queueOfN {post : Int32 → Prop} (h2 : a2 0 = -1) (hp : post (-3000)) : wpX_queueOf post (f0, a1, a2, a3, a4, a5, a6, a7, a8, a9, a10, a11, a12, a13, a14, a15, a16, a17, a18, a19, a20, a21, a22, a23, a24, a25, a26, a27, a28, a29, a30, a31, a32) 0 :=
  br_f (by decide) (br_f (by decide) (br_f (by decide) (And.intro hs_24 (br_f (by rw [hs_c0, h2]; decide) hp))))
theorem hs_queueOfK {post : Int32 → Prop} {k : Nat} (hk : k < 4) (h2 : a2 0 = nI k) (hp : post (nI k)) : wpX_queueOf post (f0, a1, a2, a3, a4, a5, a6, a7, a8, a9, a10, a11, a12, a13, a14, a15, a16, a17, a18, a19, a20, a21, a22, a23, a24, a25, a26, a27, a28, a29, a30, a31, a32) 0 :=
  br_f (by decide) (br_f (by decide) (br_f (by decide) (And.intro hs_24 (br_t (by rw [hs_c0, h2]; exact nI_pos' (by omega)) (And.intro hs_24 (ek_v (by rw [hs_c0, h2]) hp))))))
end
end
section
/-! lower -/
section
variable {f0 : Int32} {a1 a2 a3 a4 a5 a6 a7 a8 a9 a10 a11 a12 a13 a14 a15 a16 a17 a18 a19 a20 a21 a22 a23 a24 a25 a26 a27 a28 a29 a30 a31 a32 : Nat → Int32} {k : Nat}
theorem hs_riseS {post : St2 → Prop} {i : Int32} (hk : k < 4) (hi : i = 0) (h4 : a4 (k * 24) = 0) (h5 : a5 0 = 0) (hp : post (f0, a1, a2, a3, a4, a5, a6, a7, a8, a9, a10, a11, a12, a13, a14, a15, a16, a17, a18, a19, a20, a21, a22, a23, a24, a25, a26, a27, a28, a29, a30, a31, a32)) : wpX_rise post (f0, a1, a2, a3, a4, a5, a6, a7, a8, a9, a10, a11, a12, a13, a14, a15, a16, a17, a18, a19, a20, a21, a22, a23, a24, a25, a26, a27, a28, a29, a30, a31, a32) (nI k) i :=
  hs_rise hk hi h4 (by rw [hs_same h4, hs_same h5]; exact hp)
theorem hs_lowerInPairs {post : St2 → Prop} (hk : k < 4) (h6 : a6 k = 0) (hp : post (f0, a1, a2, a3, a4, a5, a6, a7, a8, a9, a10, a11, a12, a13, a14, a15, a16, a17, a18, a19, a20, a21, a22, a23, a24, a25, a26, a27, a28, a29, a30, a31, a32)) : wpX_lowerInPairs post (f0, a1, a2, a3, a4, a5, a6, a7, a8, a9, a10, a11, a12, a13, a14, a15, a16, a17, a18, a19, a20, a21, a22, a23, a24, a25, a26, a27, a28, a29, a30, a31, a32) (nI k) 0 :=
  And.intro (hs_k4 hk) (br_t (by rw [hs_ck hk, h6]) hp)
theorem hs_riseInRow {post : Int32 → St2 → Prop} {t : Int32} (h12 : a12 0 = 0) (h16 : a16 0 = 24) (hp : post 0 (f0, a1, a2, a3, a4, a5, a6, a7, a8, a9, a10, a11, a12, a13, a14, a15, a16, a17, a18, a19, a20, a21, a22, a23, a24, a25, a26, a27, a28, a29, a30, a31, a32)) : wpX_riseInRow post (f0, a1, a2, a3, a4, a5, a6, a7, a8, a9, a10, a11, a12, a13, a14, a15, a16, a17, a18, a19, a20, a21, a22, a23, a24, a25, a26, a27, a28, a29, a30, a31, a32) 0 t :=
  And.intro hs_24 (nm_r (e' := 0) (by rw [hs_c0, h12]) (Exists.intro (0 + 1) (And.intro hs_25 (br_t (by rw [hs_c0, h16]) hp))))
theorem hs_cb2 {post : Int32 → Prop} {y : Int32} (hy : y = 0) (hp : post 0) : wpX_comesBefore post (f0, a1, a2, a3, a4, a5, a6, a7, a8, a9, a10, a11, a12, a13, a14, a15, a16, a17, a18, a19, a20, a21, a22, a23, a24, a25, a26, a27, a28, a29, a30, a31, a32) 0 y := by
  subst hy
  exact hs_cb hp
theorem hs_lowerInRing {post : St2 → Prop} (hk : k < 4) (h18 : a18 k = 0) (h22 : a22 0 = 24) (hp : post (f0, a1, a2, a3, a4, a5, a6, a7, a8, a9, a10, a11, a12, a13, a14, a15, a16, a17, a18, a19, a20, a21, a22, a23, a24, a25, a26, a27, a28, a29, a30, a31, a32)) : wpX_lowerInRing post (f0, a1, a2, a3, a4, a5, a6, a7, a8, a9, a10, a11, a12, a13, a14, a15, a16, a17, a18, a19, a20, a21, a22, a23, a24, a25, a26, a27, a28, a29, a30, a31, a32) (nI k) 0 :=
  And.intro hs_25 (nm_r (e' := 24) (by rw [hs_c0, h22]) (br_t rfl (And.intro (hs_k4 hk) (hs_cb2 (by rw [hs_ck hk, h18]) (br_t rfl (And.intro (hs_k4 hk) (And.intro (hs_k4 hk) (nm_r (e' := a18) (by rw [hs_ck hk, h18, hs_n0, hs_same h18]) hp))))))))
theorem hs_lowerInLean {post : St2 → Prop} {b : Nat} {q : Int32} (hb : b < 26) (h29 : a29 b = 24) (hp : post (f0, a1, a2, a3, a4, a5, a6, a7, a8, a9, a10, a11, a12, a13, a14, a15, a16, a17, a18, a19, a20, a21, a22, a23, a24, a25, a26, a27, a28, a29, a30, a31, a32)) : wpX_lowerInLean post (f0, a1, a2, a3, a4, a5, a6, a7, a8, a9, a10, a11, a12, a13, a14, a15, a16, a17, a18, a19, a20, a21, a22, a23, a24, a25, a26, a27, a28, a29, a30, a31, a32) (nI b) q 0 :=
  And.intro (pk_in b 50 (by omega) (hs_p0 b)) (nm_r (e' := 24) (by rw [hs_p0, nI_clamp (by omega), h29]) (br_t rfl hp))
theorem hs_wS {f : Nat → Int32} (h : hs_Z f k) : hs_w f k 0 = f := by
  obtain ⟨z1, z2, z3, z4, z5, z6⟩ := h
  unfold hs_w
  rw [hs_same z1, hs_same z2, hs_same z3, hs_same z4, hs_same z5, hs_same z6]
theorem hs_lowerTo {post : St2 → Prop} {to : Int32} (hk : k < 4) (h1 : ¬ to < (-999)) (h2 : ¬ 999 < to) (O : hs_One k a2 a5 a7 a12 a14 a16 a19 a20 a21 a22 a27 a28 a29 a31) (V : hs_View (fun j => j = k) a3 a4 a6 a10 a11 a15 a18 a26 a31)
    (hp : post (f0, upd a1 0 to, a2, a3, a4, a5, a6, a7, a8, a9, a10, a11, a12, a13, a14, a15, a16, a17, a18, a19, a20, a21, a22, a23, a24, a25, a26, a27, a28, a29, a30, a31, a32)) : wpX_lowerTo post (f0, a1, a2, a3, a4, a5, a6, a7, a8, a9, a10, a11, a12, a13, a14, a15, a16, a17, a18, a19, a20, a21, a22, a23, a24, a25, a26, a27, a28, a29, a30, a31, a32) 0 to := by
  obtain ⟨o2, o5, o7, o12, o14, o16, o19, o20, o21, o22, o27, o28, o29, oO, oZ⟩ := O
  obtain ⟨v3, v4, v6, v10, v11, v15, v18, v26, v26', v31⟩ := (V k hk).1 rfl
  refine And.intro hs_24 (nm_r (e' := nI k) (by rw [hs_c0, o2]) (And.intro hs_24 (nm_r (e' := upd a1 0 to) (by rw [hs_c0, hs_short h1 h2]) (And.intro hs_24 ?_))))
  refine hs_riseS hk (by rw [hs_c0, o5]) v4 o5 ?_
  refine hs_lowerInPairs hk v6 ?_
  refine hs_riseInRow o12 o16 ?_
  refine hs_lowerInRing hk v18 o22 ?_
  refine hs_lowerInLean (b := 0) (by omega) o29.1 ?_
  refine hs_lowerInLean (b := 25) (by omega) o29.2 ?_
  refine hs_play1 hk oO ?_
  rw [hs_wS oZ]
  exact hp
/-- what lower answers -/
def hs_E9 (r now : Int32) (D G Fi : Prop) : Prop := (¬ D → r = -1000) ∧ (D → (¬ G → r = -3000) ∧ (G → (¬ Fi → r = -1000) ∧ (Fi → r = now)))
theorem hs_d999 {d : Int32} : d ≤ 999 ↔ ¬ 999 < d := by
  have e : (999 : Int32).toInt = 999 := by decide
  rw [Int32.lt_iff_toInt_lt, Int32.le_iff_toInt_le, e]
  omega
theorem hs_sub {key d : Int32} (h2 : ¬ 999 < key) (d1 : ¬ d < 0) (h1 : ¬ key < (-999)) (d2 : ¬ 999 < d) : ¬ 999 < key - d := by
  have e : (999 : Int32).toInt = 999 := by decide
  have e0 : (0 : Int32).toInt = 0 := by decide
  have e1 : (-999 : Int32).toInt = -999 := by decide
  rw [Int32.lt_iff_toInt_lt, e] at h2 d2
  rw [Int32.lt_iff_toInt_lt, e0] at d1
  rw [Int32.lt_iff_toInt_lt, e1] at h1
  rw [Int32.lt_iff_toInt_lt, e, Int32.toInt_sub, Int.bmod_def]
  omega
theorem hs_lower {post : Int32 → St2 → Prop} {key d : Int32} (hk : k < 4) (h1 : ¬ key < (-999)) (h2 : ¬ 999 < key) (h0 : a1 0 = key) (O : hs_One k a2 a5 a7 a12 a14 a16 a19 a20 a21 a22 a27 a28 a29 a31) (V : hs_View (fun j => j = k) a3 a4 a6 a10 a11 a15 a18 a26 a31)
    (hp : ∀ (r now : Int32) (a1 : Nat → Int32), a1 0 = now → (¬ ((¬ d < 0 ∧ ¬ 999 < d) ∧ ¬ key - d < (-999)) → now = key) → (((¬ d < 0 ∧ ¬ 999 < d) ∧ ¬ key - d < (-999)) → now = key - d) → hs_E9 r now (¬ d < 0 ∧ ¬ 999 < d) True ((¬ d < 0 ∧ ¬ 999 < d) ∧ ¬ key - d < (-999)) → post r (f0, a1, a2, a3, a4, a5, a6, a7, a8, a9, a10, a11, a12, a13, a14, a15, a16, a17, a18, a19, a20, a21, a22, a23, a24, a25, a26, a27, a28, a29, a30, a31, a32)) :
    wpX_lower post (f0, a1, a2, a3, a4, a5, a6, a7, a8, a9, a10, a11, a12, a13, a14, a15, a16, a17, a18, a19, a20, a21, a22, a23, a24, a25, a26, a27, a28, a29, a30, a31, a32) 0 d := by
  have bad : ¬ (¬ d < 0 ∧ ¬ 999 < d) → post (-1000) (f0, a1, a2, a3, a4, a5, a6, a7, a8, a9, a10, a11, a12, a13, a14, a15, a16, a17, a18, a19, a20, a21, a22, a23, a24, a25, a26, a27, a28, a29, a30, a31, a32) := fun n => hp (-1000) key a1 h0 (fun _ => rfl) (fun z => absurd z.1 n) ⟨fun _ => rfl, fun z => absurd z n⟩
  refine br_f (by decide) (br_f (by decide) (br_f (by decide) ?_))
  refine br_c (fun c => bad (fun z => z.1 c)) (fun c => br_c (fun c9 => ?_) (fun c9 => bad (fun z => c9 (hs_d999.mpr z.2))))
  have c9' : ¬ 999 < d := hs_d999.mp c9
  refine And.intro hs_24 (br_t (by rw [hs_c0, O.1]; exact nI_pos' (by omega)) (And.intro hs_24 (nm_r (e' := key - d) (by rw [hs_c0, h0]) ?_)))
  by_cases cf : key - d < (-999)
  · exact br_t cf (br_t rfl (hp (-1000) key a1 h0 (fun _ => rfl) (fun z => absurd cf z.2) ⟨fun n => absurd ⟨c, c9'⟩ n, fun _ => ⟨fun n => absurd trivial n, fun _ => ⟨fun _ => rfl, fun z => absurd cf z.2⟩⟩⟩))
  · have cs := hs_sub h2 c h1 c9'
    refine br_f cf (br_f cs (br_f (by decide) (hs_lowerTo hk cf cs O V ?_)))
    exact hp (key - d) (key - d) _ pk_us (fun n => absurd ⟨⟨c, c9'⟩, cf⟩ n) (fun _ => rfl) ⟨fun n => absurd ⟨c, c9'⟩ n, fun _ => ⟨fun n => absurd trivial n, fun _ => ⟨fun n => absurd ⟨⟨c, c9'⟩, cf⟩ n, fun _ => rfl⟩⟩⟩
theorem hs_lowerBad {post : Int32 → St2 → Prop} {now d : Int32} {Fi : Prop} (h0 : a2 0 = -1) (hp : ∀ r : Int32, hs_E9 r now (¬ d < 0 ∧ ¬ 999 < d) False Fi → post r (f0, a1, a2, a3, a4, a5, a6, a7, a8, a9, a10, a11, a12, a13, a14, a15, a16, a17, a18, a19, a20, a21, a22, a23, a24, a25, a26, a27, a28, a29, a30, a31, a32)) : wpX_lower post (f0, a1, a2, a3, a4, a5, a6, a7, a8, a9, a10, a11, a12, a13, a14, a15, a16, a17, a18, a19, a20, a21, a22, a23, a24, a25, a26, a27, a28, a29, a30, a31, a32) 0 d := by
  have bad : ¬ (¬ d < 0 ∧ ¬ 999 < d) → post (-1000) (f0, a1, a2, a3, a4, a5, a6, a7, a8, a9, a10, a11, a12, a13, a14, a15, a16, a17, a18, a19, a20, a21, a22, a23, a24, a25, a26, a27, a28, a29, a30, a31, a32) := fun n => hp (-1000) ⟨fun _ => rfl, fun z => absurd z n⟩
  refine br_f (by decide) (br_f (by decide) (br_f (by decide) ?_))
  refine br_c (fun c => bad (fun z => z.1 c)) (fun c => br_c (fun c9 => ?_) (fun c9 => bad (fun z => c9 (hs_d999.mpr z.2))))
  exact And.intro hs_24 (br_f (by rw [hs_c0, h0]; decide) (hp (-3000) ⟨fun n => absurd ⟨c, hs_d999.mp c9⟩ n, fun _ => ⟨fun _ => rfl, fun z => z.elim⟩⟩))
end
end
section
/-! takeUpTo -/
section
variable {f0 : Int32} {a1 a2 a3 a4 a5 a6 a7 a8 a9 a10 a11 a12 a13 a14 a15 a16 a17 a18 a19 a20 a21 a22 a23 a24 a25 a26 a27 a28 a29 a30 a31 a32 : Nat → Int32} {k : Nat}
theorem hs_removeFromArray {post : St2 → Prop} {n : Int32} (hk : k < 4) (hn : n = 1) (h4 : a4 (k * 24) = 0) (hp : post (f0, a1, a2, a3, a4, a5, a6, a7, a8, a9, a10, a11, a12, a13, a14, a15, a16, a17, a18, a19, a20, a21, a22, a23, a24, a25, a26, a27, a28, a29, a30, a31, a32)) : wpX_removeFromArray post (f0, a1, a2, a3, a4, a5, a6, a7, a8, a9, a10, a11, a12, a13, a14, a15, a16, a17, a18, a19, a20, a21, a22, a23, a24, a25, a26, a27, a28, a29, a30, a31, a32) (nI k) 0 n := by
  subst hn
  exact And.intro hs_24 (nm_e (And.intro (pk_in (k * 24) 96 (by omega) (hs_i24p k)) (nm_r (e' := 0) (by rw [hs_i24p, nI_clamp (by omega), h4]) (br_t rfl hp))))
theorem hs_pairChildren {post : Int32 → St2 → Prop} (h7 : a7 0 = 24) (hp : post 24 (0, a1, a2, a3, a4, a5, a6, upd a7 0 24, a8, a9, a10, a11, a12, a13, a14, a15, a16, a17, a18, a19, a20, a21, a22, a23, a24, a25, a26, a27, a28, a29, a30, a31, a32)) : wpX_pairChildren post (f0, a1, a2, a3, a4, a5, a6, a7, a8, a9, a10, a11, a12, a13, a14, a15, a16, a17, a18, a19, a20, a21, a22, a23, a24, a25, a26, a27, a28, a29, a30, a31, a32) 0 :=
  And.intro hs_25 (nm_r (e' := 24) (by rw [hs_c0, h7]) (Exists.intro (0 + 1) (br_t rfl (Exists.intro (0 + 1) (br_t (by decide) (br_t rfl (And.intro hs_25 (nm_r (e' := upd a7 0 24) (by rw [hs_c0]) hp))))))))
theorem hs_removeFromPairs {post : St2 → Prop} (hk : k < 4) (h6 : a6 k = 0) (h7 : a7 0 = 24) (hp : post (0, a1, a2, a3, a4, a5, upd a6 k 24, upd a7 0 24, a8, a9, a10, a11, a12, a13, a14, a15, a16, a17, a18, a19, a20, a21, a22, a23, a24, a25, a26, a27, a28, a29, a30, a31, a32)) : wpX_removeFromPairs post (f0, a1, a2, a3, a4, a5, a6, a7, a8, a9, a10, a11, a12, a13, a14, a15, a16, a17, a18, a19, a20, a21, a22, a23, a24, a25, a26, a27, a28, a29, a30, a31, a32) (nI k) 0 :=
  And.intro (hs_k4 hk) (br_t (by rw [hs_ck hk, h6]) (hs_pairChildren h7 (hs_pairN rfl (And.intro (hs_k4 hk) (nm_r (e' := upd a6 k 24) (by rw [hs_ck hk, hs_b24]) hp)))))
theorem hs_removeFromRow {post : St2 → Prop} (hk : k < 4) (h10 : a10 k = 0) (h12 : a12 0 = 0) (h14 : a14 0 = 24) (h15 : a15 0 = 24) (h16 : a16 0 = 24) (hp : post (f0, a1, a2, a3, a4, a5, a6, a7, a8, a9, upd (upd a10 k 24) k 24, a11, a12, upd a13 0 0, a14, a15, a16, a17, a18, a19, a20, a21, a22, a23, a24, a25, a26, a27, a28, a29, a30, a31, a32)) : wpX_removeFromRow post (f0, a1, a2, a3, a4, a5, a6, a7, a8, a9, a10, a11, a12, a13, a14, a15, a16, a17, a18, a19, a20, a21, a22, a23, a24, a25, a26, a27, a28, a29, a30, a31, a32) (nI k) 0 :=
  by
  unfold wpX_removeFromRow
  refine hs_riseInRow h12 h16 ?_
  exact (And.intro (hs_k4 hk) (nm_r (e' := 0) (by rw [hs_ck hk, h10]) (Exists.intro (0 + 1) (br_t rfl (br_t rfl
    (And.intro hs_25 (And.intro (hs_k4 hk) (nm_r (e' := upd a10 k 24) (by rw [hs_ck hk, hs_c0, h15, hs_n24]) (And.intro hs_25 (nm_r (e' := 24) (by rw [hs_c0, h14]) (Exists.intro (0 + 1) (br_t rfl
      (And.intro hs_25 (nm_r (e' := upd a13 0 0) (by rw [hs_c0]) (And.intro (hs_k4 hk) (hs_addRowsN (by rw [hs_ck hk]; exact pk_us) rfl (And.intro (hs_k4 hk) (nm_r (e' := upd (upd a10 k 24) k 24) (by rw [hs_ck hk, hs_b24]) hp))))))))))))))))))
theorem hs_leaveRing {post : St2 → Prop} (h20 : a20 0 = 0) (h21 : a21 0 = 0) (hp : post (f0, a1, a2, a3, a4, a5, a6, a7, a8, a9, a10, a11, a12, a13, a14, a15, a16, a17, a18, a19, upd (upd a20 0 0) 0 0, upd (upd a21 0 0) 0 0, a22, a23, a24, a25, a26, a27, a28, a29, a30, a31, a32)) : wpX_leaveRing post (f0, a1, a2, a3, a4, a5, a6, a7, a8, a9, a10, a11, a12, a13, a14, a15, a16, a17, a18, a19, a20, a21, a22, a23, a24, a25, a26, a27, a28, a29, a30, a31, a32) 0 :=
  And.intro hs_25 (And.intro hs_25 (And.intro (by rw [hs_c0, h20]; exact hs_25) (nm_r (e' := upd a21 0 0) (by rw [hs_c0, h20, h21, hs_c0, hs_n0])
    (And.intro hs_25 (And.intro hs_25 (And.intro (by rw [hs_c0, pk_us]; exact hs_25) (nm_r (e' := upd a20 0 0) (by rw [hs_c0, pk_us, h20, hs_c0, hs_n0]) (hs_alone hp))))))))
theorem hs_removeFromRing {post : St2 → Prop} (hk : k < 4) (h19 : a19 0 = 24) (h20 : a20 0 = 0) (h21 : a21 0 = 0) (h22 : a22 0 = 24) (hp : post (f0, a1, a2, a3, a4, a5, a6, a7, a8, a9, a10, a11, a12, a13, a14, a15, a16, a17, upd a18 k 24, a19, upd (upd a20 0 0) 0 0, upd (upd a21 0 0) 0 0, a22, a23, a24, a25, a26, a27, a28, a29, a30, a31, a32)) : wpX_removeFromRing post (f0, a1, a2, a3, a4, a5, a6, a7, a8, a9, a10, a11, a12, a13, a14, a15, a16, a17, a18, a19, a20, a21, a22, a23, a24, a25, a26, a27, a28, a29, a30, a31, a32) (nI k) 0 :=
  And.intro hs_25 (nm_r (e' := 24) (by rw [hs_c0, h22]) (br_t rfl (And.intro hs_25 (nm_r (e' := 24) (by rw [hs_c0, h19]) (Exists.intro (0 + 1) (br_t rfl (And.intro hs_25 (nm_r (e' := 0) (by rw [hs_c0, h21])
    (hs_leaveRing h20 h21 (br_t rfl (And.intro (hs_k4 hk) (nm_r (e' := upd a18 k 24) (by rw [hs_ck hk, hs_b24]) (br_t rfl hp)))))))))))))
theorem hs_removeFromLean {post : St2 → Prop} {b r : Nat} (hk : k < 4) (hr : hs_R b r k) (h27 : a27 b = 24) (h28 : a28 b = 24) (h29 : a29 b = 24) (hp : post (0, a1, a2, a3, a4, a5, a6, a7, a8, a9, a10, a11, a12, a13, a14, a15, a16, a17, a18, a19, a20, a21, a22, a23, a24, a25, upd a26 r 24, a27, a28, upd a29 (b + 24) 24, a30, a31, a32)) : wpX_removeFromLean post (f0, a1, a2, a3, a4, a5, a6, a7, a8, a9, a10, a11, a12, a13, a14, a15, a16, a17, a18, a19, a20, a21, a22, a23, a24, a25, a26, a27, a28, a29, a30, a31, a32) (nI b) (nI k) 0 :=
  have h1 := hs_Rb hr
  have i1 : vp_in (nI b + 0) 50 := pk_in b 50 (by omega) (hs_p0 b)
  have i2 : (nI b + 0).toNatClampNeg = b := pk_cl b (hs_p0 b) (by omega)
  And.intro i1 (nm_r (e' := 24) (by rw [i2, h29]) (And.intro i1 (And.intro i1 (hs_melt (j := 24) (by rw [i2, h27]) (by rw [i2, h28]; rfl) (by omega) (br_t rfl (hs_setLeanN hk hr hp))))))
theorem hs_takeOut {post : St2 → Prop} (hk : k < 4) (O : hs_One k a2 a5 a7 a12 a14 a16 a19 a20 a21 a22 a27 a28 a29 a31) (V : hs_View (fun j => j = k) a3 a4 a6 a10 a11 a15 a18 a26 a31)
    (hp : ∀ (f0 : Int32) (a1 a2 a3 a4 a5 a6 a7 a8 a9 a10 a11 a12 a13 a14 a15 a16 a17 a18 a19 a20 a21 a22 a23 a24 a25 a26 a27 a28 a29 a30 a31 a32 : Nat → Int32), a2 0 = -1 → a10 k = 24 → post (f0, a1, a2, a3, a4, a5, a6, a7, a8, a9, a10, a11, a12, a13, a14, a15, a16, a17, a18, a19, a20, a21, a22, a23, a24, a25, a26, a27, a28, a29, a30, a31, a32)) : wpX_takeOut post (f0, a1, a2, a3, a4, a5, a6, a7, a8, a9, a10, a11, a12, a13, a14, a15, a16, a17, a18, a19, a20, a21, a22, a23, a24, a25, a26, a27, a28, a29, a30, a31, a32) 0 := by
  obtain ⟨o2, o5, o7, o12, o14, o16, o19, o20, o21, o22, o27, o28, o29, oO, oZ⟩ := O
  obtain ⟨v3, v4, v6, v10, v11, v15, v18, v26, v26', v31⟩ := (V k hk).1 rfl
  refine And.intro hs_24 (nm_r (e' := nI k) (by rw [hs_c0, o2]) (And.intro (hs_k4 hk) ?_))
  refine hs_removeFromArray hk (by rw [hs_ck hk, v3]) v4 ?_
  refine hs_removeFromPairs hk v6 o7 ?_
  refine hs_removeFromRow hk v10 o12 o14 v15 o16 ?_
  refine hs_removeFromRing hk o19 o20 o21 o22 ?_
  refine hs_removeFromLean (b := 0) (r := k) hk (Or.inl ⟨rfl, rfl⟩) o27.1 o28.1 o29.1 ?_
  refine hs_removeFromLean (b := 25) (r := 4 + k) hk (Or.inr ⟨rfl, rfl⟩) o27.2 o28.2 (by rw [pk_un (by omega)]; exact o29.2) ?_
  refine hs_play0 hk oO ?_
  refine And.intro hs_24 (nm_e (And.intro (hs_k4 hk) (And.intro (hs_k4 hk) (nm_e ?_))))
  exact hp _ _ _ _ _ _ _ _ _ _ _ _ _ _ _ _ _ _ _ _ _ _ _ _ _ _ _ _ _ _ _ _ _ (by rw [hs_c0]; exact pk_us) pk_us
theorem hs_first2 {post : Int32 → Prop} (hk : k < 4) (h10 : a10 k = 24) (hp : post (-3000)) : wpX_first post (f0, a1, a2, a3, a4, a5, a6, a7, a8, a9, a10, a11, a12, a13, a14, a15, a16, a17, a18, a19, a20, a21, a22, a23, a24, a25, a26, a27, a28, a29, a30, a31, a32) 2 (nI k) :=
  br_f (by decide) (br_f (by decide) (br_f (by decide) (br_f (nI_pos (by omega)) (br_f (nI_ge (b := 4) hk (by omega)) (br_f (by decide)
    (br_f (by decide) (br_f (by decide) (br_f (by decide) (br_f (by decide) (br_t rfl (hs_firstInRow hk h10 (Or.inr rfl) (br_t rfl hp))))))))))))
/-- a number for queue p: BAD, 1 or 0 -/
def hs_E10 (r p : Int32) (M : Prop) : Prop := (¬ (¬ p < 0 ∧ ¬ 3 < p) → r = -1000) ∧ ((¬ p < 0 ∧ ¬ 3 < p) → (M → r = 1) ∧ (¬ M → r = 0))
def hs_E8 (r e p : Int32) (M : Prop) : Prop := (¬ ((¬ p < 0 ∧ ¬ 3 < p) ∧ ¬ e < 0 ∧ e ≤ 6) → r = -1000) ∧ (((¬ p < 0 ∧ ¬ 3 < p) ∧ ¬ e < 0 ∧ e ≤ 6) → (M → r = 0) ∧ (¬ M → r = -3000))
theorem hs_firstE {post : Int32 → Prop} {mi : Nat → Prop} {e p : Int32} {M : Prop} (V : hs_View mi a3 a4 a6 a10 a11 a15 a18 a26 a31) (hM : ∀ j, j < 4 → p = nI j → (M ↔ mi j)) (hp : ∀ r, hs_E8 r e p M → post r) : wpX_first post (f0, a1, a2, a3, a4, a5, a6, a7, a8, a9, a10, a11, a12, a13, a14, a15, a16, a17, a18, a19, a20, a21, a22, a23, a24, a25, a26, a27, a28, a29, a30, a31, a32) e p :=
  by
  unfold wpX_first
  refine hs_isEngine (fun n => br_t rfl (hp _ ⟨fun _ => rfl, fun z => absurd z.2 n⟩)) (fun i hi ei => br_f (by decide) ?_)
  refine hs_isQueue (fun n => br_t rfl (hp _ ⟨fun _ => rfl, fun z => absurd z.1 n⟩)) (fun j hj ej => br_f (by decide) ?_)
  subst ei ej
  have hh : (¬ nI j < 0 ∧ ¬ 3 < nI j) ∧ ¬ nI i < 0 ∧ nI i ≤ 6 := ⟨⟨nI_pos (by omega), hs_q3n hj⟩, nI_pos (by omega), hs_e6n hi⟩
  refine hs_firstOf V hi hj (fun m => br_f (by decide) ?_) (fun m => br_t rfl ?_)
  · exact hp 0 ⟨fun n => absurd hh n, fun _ => ⟨fun _ => rfl, fun n => absurd ((hM j hj rfl).mpr m) n⟩⟩
  · exact hp (-3000) ⟨fun n => absurd hh n, fun _ => ⟨fun g => absurd ((hM j hj rfl).mp g) m, fun _ => rfl⟩⟩
theorem hs_sizeE {post : Int32 → Prop} {mi : Nat → Prop} {p : Int32} {M : Prop} (V : hs_View mi a3 a4 a6 a10 a11 a15 a18 a26 a31) (hM : ∀ j, j < 4 → p = nI j → (M ↔ mi j)) (hp : ∀ r, hs_E10 r p M → post r) : wpX_size post (f0, a1, a2, a3, a4, a5, a6, a7, a8, a9, a10, a11, a12, a13, a14, a15, a16, a17, a18, a19, a20, a21, a22, a23, a24, a25, a26, a27, a28, a29, a30, a31, a32) p :=
  hs_size V (fun n => hp _ ⟨fun _ => rfl, fun z => absurd z n⟩)
    (fun j hj ej m => hp _ ⟨fun n => absurd (by rw [ej]; exact ⟨nI_pos (by omega), hs_q3n hj⟩) n, fun _ => ⟨fun _ => rfl, fun n => absurd ((hM j hj ej).mpr m) n⟩⟩)
    (fun j hj ej m => hp _ ⟨fun n => absurd (by rw [ej]; exact ⟨nI_pos (by omega), hs_q3n hj⟩) n, fun _ => ⟨fun g => absurd ((hM j hj ej).mp g) m, fun _ => rfl⟩⟩)
theorem hs_takeUpTo {post : Int32 → St2 → Prop} {p l now : Int32} (hk : k < 4) (h0 : a1 0 = now) (O : hs_One k a2 a5 a7 a12 a14 a16 a19 a20 a21 a22 a27 a28 a29 a31) (V : hs_View (fun j => j = k) a3 a4 a6 a10 a11 a15 a18 a26 a31)
    (hp : ∀ (r : Int32) (f0 : Int32) (a1 a2 a3 a4 a5 a6 a7 a8 a9 a10 a11 a12 a13 a14 a15 a16 a17 a18 a19 a20 a21 a22 a23 a24 a25 a26 a27 a28 a29 a30 a31 a32 : Nat → Int32), hs_E10 r p (p = nI k ∧ ¬ l < now) → ((p = nI k ∧ ¬ l < now) → a2 0 = -1) → (¬ (p = nI k ∧ ¬ l < now) → a2 0 = nI k) → post r (f0, a1, a2, a3, a4, a5, a6, a7, a8, a9, a10, a11, a12, a13, a14, a15, a16, a17, a18, a19, a20, a21, a22, a23, a24, a25, a26, a27, a28, a29, a30, a31, a32)) : wpX_takeUpTo post (f0, a1, a2, a3, a4, a5, a6, a7, a8, a9, a10, a11, a12, a13, a14, a15, a16, a17, a18, a19, a20, a21, a22, a23, a24, a25, a26, a27, a28, a29, a30, a31, a32) p l := by
  have o2 : a2 0 = nI k := O.1
  unfold wpX_takeUpTo
  refine hs_isQueue (fun n => br_t rfl (hp _ _ _ _ _ _ _ _ _ _ _ _ _ _ _ _ _ _ _ _ _ _ _ _ _ _ _ _ _ _ _ _ _ _ ⟨fun _ => rfl, fun z => absurd z n⟩ (fun z => absurd (by rw [z.1]; exact ⟨nI_pos (by omega), hs_q3n hk⟩) n) (fun _ => o2))) (fun j hj ej => br_f (by decide) ?_)
  have hP : ¬ p < 0 ∧ ¬ 3 < p := by rw [ej]; exact ⟨nI_pos (by omega), hs_q3n hj⟩
  have hE : (¬ p < 0 ∧ ¬ 3 < p) ∧ ¬ (2 : Int32) < 0 ∧ (2 : Int32) ≤ 6 := ⟨hP, by decide, by decide⟩
  refine hs_firstE V (M := j = k) (fun j' hj' ej' => by
    have e : j' = j := (nI_eq (by omega) (by omega)).mp (by rw [← ej', ← ej])
    rw [e]) (fun r hr => ?_)
  have hr := hr.2 hE
  by_cases e : j = k
  · rw [hr.1 e]
    by_cases c : l < now
    · exact Exists.intro (0 + 1) (br_f (by decide) (And.intro hs_24 (br_t (by rw [hs_c0, h0]; exact c) (hp 0 _ _ _ _ _ _ _ _ _ _ _ _ _ _ _ _ _ _ _ _ _ _ _ _ _ _ _ _ _ _ _ _ _ ⟨fun n => absurd hP n, fun _ => ⟨fun z => absurd c z.2, fun _ => rfl⟩⟩ (fun z => absurd c z.2) (fun _ => o2)))))
    · have ek : p = nI k := by rw [ej, e]
      refine Exists.intro (0 + 1 + 1) (br_f (by decide) (And.intro hs_24 (br_f (by rw [hs_c0, h0]; exact c) (hs_takeOut hk O V (fun f0 a1 a2 a3 a4 a5 a6 a7 a8 a9 a10 a11 a12 a13 a14 a15 a16 a17 a18 a19 a20 a21 a22 a23 a24 a25 a26 a27 a28 a29 a30 a31 a32 g2 g10 => nm_r (e' := 1) (by decide) ?_)))))
      rw [ek]
      exact hs_first2 hk g10 (br_t (by decide) (hp 1 _ _ _ _ _ _ _ _ _ _ _ _ _ _ _ _ _ _ _ _ _ _ _ _ _ _ _ _ _ _ _ _ _ ⟨fun n => absurd hP n, fun _ => ⟨fun _ => rfl, fun n => absurd ⟨ek, c⟩ n⟩⟩ (fun _ => g2) (fun n => absurd ⟨ek, c⟩ n)))
  · rw [hr.2 e]
    have nk : ¬ p = nI k := fun z => e ((nI_eq (by omega) (by omega)).mp (by rw [← ej, z]))
    exact Exists.intro (0 + 1) (br_t (by decide) (hp 0 _ _ _ _ _ _ _ _ _ _ _ _ _ _ _ _ _ _ _ _ _ _ _ _ _ _ _ _ _ _ _ _ _ ⟨fun n => absurd hP n, fun _ => ⟨fun z => absurd z.1 nk, fun _ => rfl⟩⟩ (fun z => absurd z.1 nk) (fun _ => o2)))
theorem hs_takeUpToBad {post : Int32 → St2 → Prop} {p l : Int32} {W : Prop} (hW : ¬ W) (V : hs_View (fun _ => False) a3 a4 a6 a10 a11 a15 a18 a26 a31)
    (hp : ∀ r : Int32, hs_E10 r p W → post r (f0, a1, a2, a3, a4, a5, a6, a7, a8, a9, a10, a11, a12, a13, a14, a15, a16, a17, a18, a19, a20, a21, a22, a23, a24, a25, a26, a27, a28, a29, a30, a31, a32)) : wpX_takeUpTo post (f0, a1, a2, a3, a4, a5, a6, a7, a8, a9, a10, a11, a12, a13, a14, a15, a16, a17, a18, a19, a20, a21, a22, a23, a24, a25, a26, a27, a28, a29, a30, a31, a32) p l := by
  unfold wpX_takeUpTo
  refine hs_isQueue (fun n => br_t rfl (hp _ ⟨fun _ => rfl, fun z => absurd z n⟩)) (fun j hj ej => br_f (by decide) ?_)
  have hP : ¬ p < 0 ∧ ¬ 3 < p := by rw [ej]; exact ⟨nI_pos (by omega), hs_q3n hj⟩
  have hE : (¬ p < 0 ∧ ¬ 3 < p) ∧ ¬ (2 : Int32) < 0 ∧ (2 : Int32) ≤ 6 := ⟨hP, by decide, by decide⟩
  refine hs_firstE V (M := False) (fun _ _ _ => Iff.rfl) (fun r hr => ?_)
  rw [(hr.2 hE).2 (fun z => z)]
  exact Exists.intro (0 + 1) (br_t (by decide) (hp 0 ⟨fun n => absurd hP n, fun _ => ⟨fun z => absurd z hW, fun _ => rfl⟩⟩))
end
end
section
/-! the law's own checks, and what is owed -/
section
variable {post : Int32 → St0 → Prop} {mc ms kc ks : Nat} {x0 x1 x2 x3 x4 x5 x7 x8 x9 x10 x11 x12 x13 x14 x15 x16 x17 x18 x19 z0 z1 : Int32} {G D Fi M W : Prop}
def hs_E12 (r q : Int32) (G W : Prop) : Prop := (G ∧ ¬ W → r = q) ∧ (¬ (G ∧ ¬ W) → r = -3000)
theorem hs_352 (hp : post 1 ()) (hz : z1 = z0) (h13 : hs_F x13 G) (h19 : hs_F x19 W) (e12 : hs_E12 x12 x0 G W) : wL_lawOf_352 post mc ms x0 x12 x13 x19 z0 z1 kc ks :=
  br_t hz (hs_Fb h13 (fun n => br_t (e12.2 (fun z => n z.1)) hp) (fun g => hs_Fb h19 (fun n => br_t (e12.1 ⟨g, n⟩) hp) (fun w => br_t (e12.2 (fun z => z.2 w)) hp)))
theorem hs_326 (hp : post 1 ()) (hz : z1 = z0) (h13 : hs_F x13 G) (h14 : hs_F x14 (¬ x4 < 0 ∧ ¬ 3 < x4)) (h19 : hs_F x19 W) (e11 : hs_E10 x11 x4 W) (e12 : hs_E12 x12 x0 G W) : wL_lawOf_326 post mc ms x0 x11 x12 x13 x14 x19 z0 z1 kc ks :=
  br_t hz (hs_Fb h14 (fun n => hs_352 hp (e11.1 n) h13 h19 e12) (fun g => hs_Fb h19 (fun n => hs_352 hp ((e11.2 g).2 n) h13 h19 e12) (fun w => hs_352 hp ((e11.2 g).1 w) h13 h19 e12)))
theorem hs_300 (hp : post 1 ()) (hz : z1 = z0) (h13 : hs_F x13 G) (h14 : hs_F x14 (¬ x4 < 0 ∧ ¬ 3 < x4)) (h18 : hs_F x18 M) (h19 : hs_F x19 W) (e10 : hs_E10 x10 x4 M) (e11 : hs_E10 x11 x4 W) (e12 : hs_E12 x12 x0 G W) : wL_lawOf_300 post mc ms x0 x10 x11 x12 x13 x14 x18 x19 z0 z1 kc ks :=
  br_t hz (hs_Fb h14 (fun n => hs_326 hp (e10.1 n) h13 h14 h19 e11 e12) (fun g => hs_Fb h18 (fun n => hs_326 hp ((e10.2 g).2 n) h13 h14 h19 e11 e12) (fun w => hs_326 hp ((e10.2 g).1 w) h13 h14 h19 e11 e12)))
theorem hs_260 (hp : post 1 ()) (hz : z1 = z0) (h13 : hs_F x13 G) (h14 : hs_F x14 (¬ x4 < 0 ∧ ¬ 3 < x4)) (h15 : hs_F x15 D) (h16 : hs_F x16 Fi) (h18 : hs_F x18 M) (h19 : hs_F x19 W) (e9 : hs_E9 x9 x17 D G Fi) (e10 : hs_E10 x10 x4 M) (e11 : hs_E10 x11 x4 W) (e12 : hs_E12 x12 x0 G W) : wL_lawOf_260 post mc ms x0 x9 x10 x11 x12 x13 x14 x15 x16 x17 x18 x19 z0 z1 kc ks :=
  br_t hz (hs_Fb h15 (fun n => hs_300 hp (e9.1 n) h13 h14 h18 h19 e10 e11 e12) (fun d => hs_Fb h13 (fun n => hs_300 hp ((e9.2 d).1 n) h13 h14 h18 h19 e10 e11 e12)
    (fun g => hs_Fb h16 (fun n => hs_300 hp (((e9.2 d).2 g).1 n) h13 h14 h18 h19 e10 e11 e12) (fun f => hs_300 hp (((e9.2 d).2 g).2 f) h13 h14 h18 h19 e10 e11 e12))))
theorem hs_222 (hp : post 1 ()) (hz : z1 = z0) (h13 : hs_F x13 G) (h14 : hs_F x14 (¬ x4 < 0 ∧ ¬ 3 < x4)) (h15 : hs_F x15 D) (h16 : hs_F x16 Fi) (h18 : hs_F x18 M) (h19 : hs_F x19 W) (e8 : hs_E8 x8 x2 x4 M) (e9 : hs_E9 x9 x17 D G Fi) (e10 : hs_E10 x10 x4 M) (e11 : hs_E10 x11 x4 W) (e12 : hs_E12 x12 x0 G W) : wL_lawOf_222 post mc ms x0 x2 x8 x9 x10 x11 x12 x13 x14 x15 x16 x17 x18 x19 z0 z1 kc ks :=
  have bad : ¬ ((¬ x4 < 0 ∧ ¬ 3 < x4) ∧ ¬ x2 < 0 ∧ x2 ≤ 6) → wL_lawOf_242 post mc ms x0 x9 x10 x11 x12 x13 x14 x15 x16 x17 x18 x19 x8 kc ks := fun n => hs_260 hp (e8.1 n) h13 h14 h15 h16 h18 h19 e9 e10 e11 e12
  br_t hz (hs_Fb h14 (fun n => bad (fun z => n z.1)) (fun g => br_c (fun c => bad (fun z => z.2.1 c)) (fun c => br_c
    (fun c6 => hs_Fb h18 (fun n => hs_260 hp ((e8.2 ⟨g, c, c6⟩).2 n) h13 h14 h15 h16 h18 h19 e9 e10 e11 e12) (fun m => hs_260 hp ((e8.2 ⟨g, c, c6⟩).1 m) h13 h14 h15 h16 h18 h19 e9 e10 e11 e12))
    (fun c6 => bad (fun z => c6 z.2.2)))))
theorem hs_206 (hp : post 1 ()) (h13 : hs_F x13 G) (h14 : hs_F x14 (¬ x4 < 0 ∧ ¬ 3 < x4)) (h15 : hs_F x15 D) (h16 : hs_F x16 Fi) (h18 : hs_F x18 M) (h19 : hs_F x19 W) (e7 : (G → x7 = 0) ∧ (¬ G → x7 = -1000)) (e8 : hs_E8 x8 x2 x4 M) (e9 : hs_E9 x9 x17 D G Fi) (e10 : hs_E10 x10 x4 M) (e11 : hs_E10 x11 x4 W) (e12 : hs_E12 x12 x0 G W) : wL_lawOf_206 post mc ms x0 x2 x7 x8 x9 x10 x11 x12 x13 x14 x15 x16 x17 x18 x19 kc ks :=
  hs_Fb h13 (fun n => hs_222 hp (e7.2 n) h13 h14 h15 h16 h18 h19 e8 e9 e10 e11 e12) (fun g => hs_222 hp (e7.1 g) h13 h14 h15 h16 h18 h19 e8 e9 e10 e11 e12)
theorem hs_93 (H : ∀ z, hs_F z (¬ x4 < 0 ∧ ¬ 3 < x4) → wL_lawOf_111 post mc ms x0 x1 x2 x3 x4 x5 x7 x8 x9 x10 x11 x12 x13 z kc ks) : wL_lawOf_93 post mc ms x0 x1 x2 x3 x4 x5 x7 x8 x9 x10 x11 x12 x13 kc ks :=
  br_c (fun c => H 0 (hs_F0 (fun z => z.1 c))) (fun c => br_c (fun c2 => H 0 (hs_F0 (fun z => z.2 c2))) (fun c2 => H 1 (hs_F1 ⟨c, c2⟩)))
theorem hs_111 (H : ∀ z, hs_F z (¬ x3 < 0 ∧ ¬ 999 < x3) → wL_lawOf_129 post mc ms x0 x1 x2 x3 x4 x5 x7 x8 x9 x10 x11 x12 x13 x14 z kc ks) : wL_lawOf_111 post mc ms x0 x1 x2 x3 x4 x5 x7 x8 x9 x10 x11 x12 x13 x14 kc ks :=
  br_c (fun c => H 0 (hs_F0 (fun z => z.1 c))) (fun c => br_c (fun c2 => H 0 (hs_F0 (fun z => z.2 c2))) (fun c2 => H 1 (hs_F1 ⟨c, c2⟩)))
theorem hs_129 (h13 : hs_F x13 G) (h15 : hs_F x15 D) (H : ∀ z, hs_F z (G ∧ D ∧ ¬ x1 - x3 < (-999)) → wL_lawOf_155 post mc ms x0 x1 x2 x3 x4 x5 x7 x8 x9 x10 x11 x12 x13 x14 x15 z kc ks) : wL_lawOf_129 post mc ms x0 x1 x2 x3 x4 x5 x7 x8 x9 x10 x11 x12 x13 x14 x15 kc ks :=
  hs_Fb h13 (fun n => H 0 (hs_F0 (fun z => n z.1))) (fun g => hs_Fb h15 (fun n => H 0 (hs_F0 (fun z => n z.2.1))) (fun d => br_c (fun c => H 0 (hs_F0 (fun z => z.2.2 c))) (fun c => H 1 (hs_F1 ⟨g, d, c⟩))))
theorem hs_155 (h16 : hs_F x16 Fi) (H : ∀ z, (¬ Fi → z = x1) → (Fi → z = x1 - x3) → wL_lawOf_169 post mc ms x0 x2 x4 x5 x7 x8 x9 x10 x11 x12 x13 x14 x15 x16 z kc ks) : wL_lawOf_155 post mc ms x0 x1 x2 x3 x4 x5 x7 x8 x9 x10 x11 x12 x13 x14 x15 x16 kc ks :=
  hs_Fb h16 (fun n => H _ (fun _ => rfl) (fun z => absurd z n)) (fun f => H _ (fun n => absurd f n) (fun _ => rfl))
theorem hs_169 (h13 : hs_F x13 G) (H : ∀ z, hs_F z (G ∧ x4 = x0) → wL_lawOf_187 post mc ms x0 x2 x5 x7 x8 x9 x10 x11 x12 x13 x14 x15 x16 x17 z kc ks) : wL_lawOf_169 post mc ms x0 x2 x4 x5 x7 x8 x9 x10 x11 x12 x13 x14 x15 x16 x17 kc ks :=
  hs_Fb h13 (fun n => H 0 (hs_F0 (fun z => n z.1))) (fun g => br_c (fun c => H 1 (hs_F1 ⟨g, c⟩)) (fun c => H 0 (hs_F0 (fun z => c z.2))))
theorem hs_187 (h18 : hs_F x18 M) (H : ∀ z, hs_F z (M ∧ ¬ x5 < x17) → wL_lawOf_206 post mc ms x0 x2 x7 x8 x9 x10 x11 x12 x13 x14 x15 x16 x17 x18 z kc ks) : wL_lawOf_187 post mc ms x0 x2 x5 x7 x8 x9 x10 x11 x12 x13 x14 x15 x16 x17 x18 kc ks :=
  hs_Fb h18 (fun n => H 0 (hs_F0 (fun z => n z.1))) (fun m => br_c (fun c => H 0 (hs_F0 (fun z => z.2 c))) (fun c => H 1 (hs_F1 ⟨m, c⟩)))
/-- all the law's checks behind the calls, from what the calls answered -/
theorem hs_end (hp : post 1 ()) (h13 : hs_F x13 G) {now : Int32} (n1 : ¬ (G ∧ (¬ x3 < 0 ∧ ¬ 999 < x3) ∧ ¬ x1 - x3 < (-999)) → now = x1) (n2 : (G ∧ (¬ x3 < 0 ∧ ¬ 999 < x3) ∧ ¬ x1 - x3 < (-999)) → now = x1 - x3)
    (e7 : (G → x7 = 0) ∧ (¬ G → x7 = -1000)) (e8 : hs_E8 x8 x2 x4 (G ∧ x4 = x0)) (e9 : hs_E9 x9 now (¬ x3 < 0 ∧ ¬ 999 < x3) G (G ∧ (¬ x3 < 0 ∧ ¬ 999 < x3) ∧ ¬ x1 - x3 < (-999))) (e10 : hs_E10 x10 x4 (G ∧ x4 = x0)) (e11 : hs_E10 x11 x4 ((G ∧ x4 = x0) ∧ ¬ x5 < now)) (e12 : hs_E12 x12 x0 G ((G ∧ x4 = x0) ∧ ¬ x5 < now)) :
    wL_lawOf_93 post mc ms x0 x1 x2 x3 x4 x5 x7 x8 x9 x10 x11 x12 x13 kc ks :=
  hs_93 (fun y14 h14 => hs_111 (fun y15 h15 => hs_129 h13 h15 (fun y16 h16 => hs_155 h16 (fun y17 m1 m2 => hs_169 h13 (fun y18 h18 => hs_187 h18 (fun y19 h19 => by
    have e : y17 = now := by
      by_cases f : G ∧ (¬ x3 < 0 ∧ ¬ 999 < x3) ∧ ¬ x1 - x3 < (-999)
      · rw [m2 f, n2 f]
      · rw [m1 f, n1 f]
    subst e
    exact hs_206 hp h13 h14 h15 h16 h18 h19 e7 e8 e9 e10 e11 e12))))))
theorem hs_top {A : Int32 → Prop} (H : ∀ z, hs_F z (¬ x0 < 0 ∧ ¬ 3 < x0 ∧ ¬ x1 < (-999) ∧ ¬ 999 < x1) → A z) :
    (x0 < 0 → A 0) ∧ (¬ x0 < 0 → (3 < x0 → A 0) ∧ (¬ 3 < x0 → (x1 < (-999) → A 0) ∧ (¬ x1 < (-999) → (999 < x1 → A 0) ∧ (¬ 999 < x1 → A 1)))) :=
  br_c (fun c => H 0 (hs_F0 (fun z => z.1 c))) (fun c => br_c (fun c2 => H 0 (hs_F0 (fun z => z.2.1 c2))) (fun c2 => br_c (fun c3 => H 0 (hs_F0 (fun z => z.2.2.1 c3))) (fun c3 => br_c (fun c4 => H 0 (hs_F0 (fun z => z.2.2.2 c4))) (fun c4 => H 1 (hs_F1 ⟨c, c2, c3, c4⟩)))))
end
end
section
/-! the owed statement -/
theorem hs_lawOf {post : Int32 → St0 → Prop} (hp : post 1 ()) (q key e d p l : Int32) : wpL_lawOf post 244 3888 () q key e d p l := by
  refine And.intro (by decide) (And.intro (by decide) (Exists.intro 32 (Exists.intro 1119 (And.intro (by decide) (And.intro (by decide) ?_)))))
  refine hs_init (fun f0 a1 a2 a3 a4 a5 a6 a7 a8 a9 a10 a11 a12 a13 a14 a15 a16 a17 a18 a19 a20 a21 a22 a23 a24 a25 a26 a27 a28 a29 a30 a31 a32 F => ?_)
  by_cases g : ¬ q < 0 ∧ ¬ 3 < q ∧ ¬ key < (-999) ∧ ¬ 999 < key
  · obtain ⟨k, hk, ek⟩ : ∃ k : Nat, k < 4 ∧ q = nI k := by
      rcases pk_ix q (n := 4) (by omega) with h | h | h
      · exact absurd h g.1
      · exact absurd (hs_q3 h) g.2.1
      · exact h
    subst ek
    have hM : ∀ j, j < 4 → p = nI j → (((¬ nI k < 0 ∧ ¬ 3 < nI k ∧ ¬ key < (-999) ∧ ¬ 999 < key) ∧ p = nI k) ↔ j = k) := fun j hj ej =>
      ⟨fun z => (nI_eq (by omega) (by omega)).mp (by rw [← ej, z.2]), fun z => ⟨g, by rw [ej, z]⟩⟩
    refine hs_insert hk g.2.2.1 g.2.2.2 F (fun f0 a1 a2 a3 a4 a5 a6 a7 a8 a9 a10 a11 a12 a13 a14 a15 a16 a17 a18 a19 a20 a21 a22 a23 a24 a25 a26 a27 a28 a29 a30 a31 a32 h1 O V => ?_)
    refine hs_firstE V hM (fun r8 e8 => ?_)
    refine hs_lower hk g.2.2.1 g.2.2.2 h1 O V (fun r9 now a1 h0 n1 n2 e9 => ?_)
    refine hs_sizeE V hM (fun r10 e10 => ?_)
    refine hs_takeUpTo hk h0 O V (fun r11 f0 a1 a2 a3 a4 a5 a6 a7 a8 a9 a10 a11 a12 a13 a14 a15 a16 a17 a18 a19 a20 a21 a22 a23 a24 a25 a26 a27 a28 a29 a30 a31 a32 e11 t1 t2 => ?_)
    have m1 : ¬ ((¬ nI k < 0 ∧ ¬ 3 < nI k ∧ ¬ key < (-999) ∧ ¬ 999 < key) ∧ (¬ d < 0 ∧ ¬ 999 < d) ∧ ¬ key - d < (-999)) → now = key := fun n => n1 (fun z => n ⟨g, z⟩)
    have m2 : ((¬ nI k < 0 ∧ ¬ 3 < nI k ∧ ¬ key < (-999) ∧ ¬ 999 < key) ∧ (¬ d < 0 ∧ ¬ 999 < d) ∧ ¬ key - d < (-999)) → now = key - d := fun z => n2 z.2
    have f9 : hs_E9 r9 now (¬ d < 0 ∧ ¬ 999 < d) (¬ nI k < 0 ∧ ¬ 3 < nI k ∧ ¬ key < (-999) ∧ ¬ 999 < key) ((¬ nI k < 0 ∧ ¬ 3 < nI k ∧ ¬ key < (-999) ∧ ¬ 999 < key) ∧ (¬ d < 0 ∧ ¬ 999 < d) ∧ ¬ key - d < (-999)) :=
      ⟨e9.1, fun c => ⟨fun n => absurd g n, fun _ => ⟨fun n => ((e9.2 c).2 trivial).1 (fun z => n ⟨g, z⟩), fun f => ((e9.2 c).2 trivial).2 f.2⟩⟩⟩
    have f11 : hs_E10 r11 p (((¬ nI k < 0 ∧ ¬ 3 < nI k ∧ ¬ key < (-999) ∧ ¬ 999 < key) ∧ p = nI k) ∧ ¬ l < now) :=
      ⟨e11.1, fun c => ⟨fun w => (e11.2 c).1 ⟨w.1.2, w.2⟩, fun n => (e11.2 c).2 (fun z => n ⟨⟨g, z.1⟩, z.2⟩)⟩⟩
    by_cases w : p = nI k ∧ ¬ l < now
    · refine hs_queueOfN (t1 w) ?_
      exact hs_top (A := fun z => wL_lawOf_93 post 244 3888 (nI k) key e d p l 0 r8 r9 r10 r11 (-3000) z (1 + 32) (33 + 1119)) (fun z hz => hs_end hp hz m1 m2 ⟨fun _ => rfl, fun n => absurd g n⟩ e8 f9 e10 f11
        ⟨fun z => absurd ⟨⟨g, w.1⟩, w.2⟩ z.2, fun _ => rfl⟩)
    · refine hs_queueOfK hk (t2 w) ?_
      exact hs_top (A := fun z => wL_lawOf_93 post 244 3888 (nI k) key e d p l 0 r8 r9 r10 r11 (nI k) z (1 + 32) (33 + 1119)) (fun z hz => hs_end hp hz m1 m2 ⟨fun _ => rfl, fun n => absurd g n⟩ e8 f9 e10 f11
        ⟨fun _ => rfl, fun n => absurd ⟨g, fun z => w ⟨z.1.2, z.2⟩⟩ n⟩)
  · have V : hs_View (fun _ => False) a3 a4 a6 a10 a11 a15 a18 a26 a31 := hs_freshView F
    refine hs_insertBad g ?_
    refine hs_firstE V (M := (¬ q < 0 ∧ ¬ 3 < q ∧ ¬ key < (-999) ∧ ¬ 999 < key) ∧ p = q) (fun j hj ej => ⟨fun z => g z.1, fun z => z.elim⟩) (fun r8 e8 => ?_)
    refine hs_lowerBad (now := key) (Fi := (¬ q < 0 ∧ ¬ 3 < q ∧ ¬ key < (-999) ∧ ¬ 999 < key) ∧ (¬ d < 0 ∧ ¬ 999 < d) ∧ ¬ key - d < (-999)) F.1 (fun r9 e9 => ?_)
    refine hs_sizeE V (M := (¬ q < 0 ∧ ¬ 3 < q ∧ ¬ key < (-999) ∧ ¬ 999 < key) ∧ p = q) (fun j hj ej => ⟨fun z => g z.1, fun z => z.elim⟩) (fun r10 e10 => ?_)
    refine hs_takeUpToBad (W := ((¬ q < 0 ∧ ¬ 3 < q ∧ ¬ key < (-999) ∧ ¬ 999 < key) ∧ p = q) ∧ ¬ l < key) (fun z => g z.1.1) V (fun r11 e11 => ?_)
    refine hs_queueOfN F.1 ?_
    exact hs_top (A := fun z => wL_lawOf_93 post 244 3888 q key e d p l (-1000) r8 r9 r10 r11 (-3000) z (1 + 32) (33 + 1119)) (fun z hz => hs_end (now := key) hp hz (fun _ => rfl) (fun z => absurd z.1 g) ⟨fun z => absurd z g, fun _ => rfl⟩ e8
      ⟨e9.1, fun c => ⟨fun _ => (e9.2 c).1 (fun z => z), fun z => absurd z g⟩⟩ e10 e11 ⟨fun z => absurd z.1 g, fun _ => rfl⟩)
theorem hs_cell {post : Int32 → Prop} {L i : Nat} {xs : Nat → Int32} (hL : L ≤ 6) (hi : i < 6) (H : ∀ v, post v) : wpL_cellAt post L xs () (nI i) :=
  pk_le L i (fun _ => H _) (fun z => And.intro (pk_in i L z) (H _))
theorem i_vc (xs : Nat → Int32) (L : Nat) (hL : L ≤ 6) : wpL_law (fun r => r = 1) L xs :=
  hs_cell (i := 0) hL (by omega) (fun v0 => hs_cell (i := 1) hL (by omega) (fun v1 => hs_cell (i := 2) hL (by omega) (fun v2 => hs_cell (i := 3) hL (by omega) (fun v3 => hs_cell (i := 4) hL (by omega) (fun v4 => hs_cell (i := 5) hL (by omega) (fun v5 =>
    Exists.intro 244 (Exists.intro 3888 (And.intro (by decide) (And.intro (by decide) (hs_lawOf (post := fun r _ => r = 1) rfl v0 v1 v2 v3 v4 v5))))))))))
end
