section
/-! the base: stores, moves, what a trace's making does a call -/
theorem bf_uu (f : Nat → Int32) (k : Nat) (x y : Int32) : upd (upd f k x) k y = upd f k y := by
  funext j
  by_cases hj : j = k
  · rw [hj, pk_us, pk_us]
  · rw [pk_un hj, pk_un hj, pk_un hj]
theorem bf_self {f : Nat → Int32} {k : Nat} {x : Int32} (hx : f k = x) : upd f k x = f := by
  funext j
  by_cases hj : j = k
  · rw [hj, pk_us, hx]
  · rw [pk_un hj]
/-- where a move leads -/
def bf_mv (x d : Int32) : Int32 :=
  if d = 0 then (((x &&& 7) + 1) &&& 7) + (8 * (x >>> ((3 : Int32) &&& 31)))
  else if d = 1 then (((x &&& 7) - 1) &&& 7) + (8 * (x >>> ((3 : Int32) &&& 31)))
  else if d = 2 then (x &&& 7) + (8 * (((x >>> ((3 : Int32) &&& 31)) + 1) &&& 3))
  else (x &&& 7) + (8 * (((x >>> ((3 : Int32) &&& 31)) - 1) &&& 3))
section
variable {c w e dn h wr la md lv : Int32} {a1 a2 a3 a4 a5 a6 a7 a8 a9 a10 a11 a12 a13 a14 : Nat → Int32}
theorem bf_moved {post : Int32 → Prop} {x d y : Int32} (hy : bf_mv x d = y) (H : post y) : wpX_moved post (c, w, e, dn, h, wr, la, md, lv, a1, a2, a3, a4, a5, a6, a7, a8, a9, a10, a11, a12, a13, a14) x d := by
  unfold wpX_moved
  dsimp only
  subst hy
  unfold bf_mv at H
  intro x3 e3 x4 e4
  subst e3
  subst e4
  by_cases h0 : d = 0
  · rw [if_pos h0] at H
    exact br_t h0 (nm_e H)
  · rw [if_neg h0] at H
    refine br_f h0 ?_
    by_cases h1 : d = 1
    · rw [if_pos h1] at H
      exact br_t h1 (nm_e H)
    · rw [if_neg h1] at H
      refine br_f h1 ?_
      by_cases h2 : d = 2
      · rw [if_pos h2] at H
        exact br_t h2 (nm_e H)
      · rw [if_neg h2] at H
        exact br_f h2 (nm_e H)
theorem bf_br1 {post : Int32 → Prop} {x : Int32} (hx : x = 23 ∨ x = 25 ∨ x = 29) (H : post 1) : wpX_breaks post (c, w, e, dn, h, wr, la, md, lv, a1, a2, a3, a4, a5, a6, a7, a8, a9, a10, a11, a12, a13, a14) x := by
  rcases hx with rfl | rfl | rfl
  · exact br_f (by decide) (br_t rfl H)
  · exact br_f (by decide) (br_f (by decide) (br_t rfl H))
  · exact br_f (by decide) (br_f (by decide) (br_f (by decide) (br_f (by decide) (br_t rfl H))))
theorem bf_br0 {post : Int32 → Prop} {x : Int32} (hx : ¬ x = 22 ∧ ¬ x = 23 ∧ ¬ x = 25 ∧ ¬ x = 26 ∧ ¬ x = 29) (H : post 0) : wpX_breaks post (c, w, e, dn, h, wr, la, md, lv, a1, a2, a3, a4, a5, a6, a7, a8, a9, a10, a11, a12, a13, a14) x :=
  br_f hx.1 (br_f hx.2.1 (br_f hx.2.2.1 (br_f hx.2.2.2.1 (br_f hx.2.2.2.2 H))))
/-- so few operations stand that no number of them is known -/
theorem bf_knS {post : Int32 → Prop} {t m : Int32} (hs : md < m) (hm : ¬ m < 1) (H : post 0) : wpX_known post (c, w, e, dn, h, wr, la, md, lv, a1, a2, a3, a4, a5, a6, a7, a8, a9, a10, a11, a12, a13, a14) t m := by
  unfold wpX_known
  dsimp only
  refine br_t hs ⟨1, ?_⟩
  exact br_f hm (br_t rfl ⟨rfl, H⟩)
/-- the last operation pushes no known number -/
theorem bf_kn1 {post : Int32 → Prop} {t : Int32} {q : Nat} (hs : ¬ md < 1) (hin : vp_in (((t * 16) + md) - 1) 256) (hq : (((t * 16) + md) - 1).toNatClampNeg = q) (hop : ¬ a13 q = 40) (H : post 0) : wpX_known post (c, w, e, dn, h, wr, la, md, lv, a1, a2, a3, a4, a5, a6, a7, a8, a9, a10, a11, a12, a13, a14) t 1 := by
  unfold wpX_known
  dsimp only
  subst hq
  refine br_f hs ⟨2, ?_⟩
  refine br_f (by decide) (br_f (by decide) ⟨hin, br_f hop (nm_e ?_)⟩)
  exact br_t (by decide) ⟨rfl, H⟩
/-- the larger of the two, as account leaves it -/
def bf_mx (x y : Int32) : Int32 := if y ≤ x then x else y
theorem bf_acc {post : St2 → Prop} {t off on nd rs l n r : Int32} {k : Nat} {A8 A9 : Nat → Int32} (ht : vp_in t 16) (hk : t.toNatClampNeg = k) (h8 : a8 = upd A8 k nd) (h9 : a9 = upd A9 k rs)
    (hl : (lv - off) + on = l) (hn : bf_mx nd (off - lv) = n) (hr : bf_mx rs l = r)
    (H : post (c, w, e, dn, h, wr, la, md, l, a1, a2, a3, a4, a5, a6, a7, upd A8 k n, upd A9 k r, a10, a11, a12, a13, a14)) : wpX_account post (c, w, e, dn, h, wr, la, md, lv, a1, a2, a3, a4, a5, a6, a7, a8, a9, a10, a11, a12, a13, a14) t off on := by
  subst hk
  subst h8
  subst h9
  have e8 : upd A8 t.toNatClampNeg nd t.toNatClampNeg = nd := pk_us
  have e9 : upd A9 t.toNatClampNeg rs t.toNatClampNeg = rs := pk_us
  have fin : ∀ b8 : Nat → Int32, b8 = upd A8 t.toNatClampNeg n → wX_account_27 post t off on c w e dn h wr la md lv a1 a2 a3 a4 a5 a6 a7 b8 (upd A9 t.toNatClampNeg rs) a10 a11 a12 a13 a14 := by
    intro b8 hb
    subst hb
    unfold wX_account_27
    refine nm_r hl ⟨ht, ?_⟩
    rw [e9]
    unfold bf_mx at hr
    by_cases g : l ≤ rs
    · rw [if_pos g] at hr
      subst hr
      exact br_t g H
    · rw [if_neg g] at hr
      subst hr
      refine br_f g ⟨ht, nm_r (bf_uu _ _ _ _) H⟩
  unfold wpX_account
  dsimp only
  rw [e8]
  refine ⟨ht, ?_⟩
  unfold bf_mx at hn
  by_cases g : off - lv ≤ nd
  · rw [if_pos g] at hn
    subst hn
    exact br_t g (fin _ rfl)
  · rw [if_neg g] at hn
    subst hn
    exact br_f g ⟨ht, nm_r (bf_uu _ _ _ _) (fin _ rfl)⟩
theorem bf_add {post : St2 → Prop} {t what v m : Int32} {q : Nat} (hin : vp_in ((t * 16) + md) 256) (hq : ((t * 16) + md).toNatClampNeg = q) (hm : md + 1 = m)
    (H : post (c, w, e, dn, h, wr, la, m, lv, a1, a2, a3, a4, a5, a6, a7, a8, a9, a10, a11, a12, upd a13 q what, upd a14 q v)) : wpX_add post (c, w, e, dn, h, wr, la, md, lv, a1, a2, a3, a4, a5, a6, a7, a8, a9, a10, a11, a12, a13, a14) t what v := by
  subst hq
  exact ⟨hin, nm_e ⟨hin, nm_e (nm_r hm H)⟩⟩
/-- a code that does nothing -/
theorem bf_enN {post : St2 → Prop} {t x : Int32} (hx : x = 0 ∨ x = 30 ∨ x = 31) (H : post (c, w, e, dn, h, wr, la, md, lv, a1, a2, a3, a4, a5, a6, a7, a8, a9, a10, a11, a12, a13, a14)) : wpX_enter post (c, w, e, dn, h, wr, la, md, lv, a1, a2, a3, a4, a5, a6, a7, a8, a9, a10, a11, a12, a13, a14) t x := by
  rcases hx with rfl | rfl | rfl
  · refine br_t (by decide) ?_
    refine br_t (by decide) ?_
    exact br_f (by decide) (br_f (by decide) (br_f (by decide) (br_f (by decide) (br_f (by decide) (br_f (by decide) H)))))
  · refine br_f (by decide) (br_t (by decide) ?_)
    refine br_f (by decide) (br_t (by decide) ?_)
    exact br_f (by decide) (br_f (by decide) (br_f (by decide) (br_f (by decide) (br_f (by decide) (br_f (by decide) H)))))
  · refine br_f (by decide) (br_t (by decide) ?_)
    refine br_f (by decide) (br_t (by decide) ?_)
    exact br_f (by decide) (br_f (by decide) (br_f (by decide) (br_f (by decide) (br_f (by decide) (br_f (by decide) H)))))
/-- no operation stands, or the last one pushes no known number -/
def bf_nk (t md : Int32) (a13 : Nat → Int32) : Prop := md < 1 ∨ ∃ q : Nat, ¬ md < 1 ∧ vp_in (((t * 16) + md) - 1) 256 ∧ (((t * 16) + md) - 1).toNatClampNeg = q ∧ ¬ a13 q = 40
theorem bf_kn {post : Int32 → Prop} {t : Int32} (hk : bf_nk t md a13) (H : post 0) : wpX_known post (c, w, e, dn, h, wr, la, md, lv, a1, a2, a3, a4, a5, a6, a7, a8, a9, a10, a11, a12, a13, a14) t 1 := by
  rcases hk with hk | ⟨q, h1, h2, h3, h4⟩
  · exact bf_knS hk (by decide) H
  · exact bf_kn1 h1 h2 h3 h4 H
/-- the number 1 -/
theorem bf_en1 {post : St2 → Prop} {t nd rs : Int32} {k : Nat} {A8 A9 : Nat → Int32} (l n r m : Int32) (q : Nat) (H : post (c, w, e, dn, h, wr, la, m, l, a1, a2, a3, a4, a5, a6, a7, upd A8 k n, upd A9 k r, a10, a11, a12, upd a13 q 40, upd a14 q 1))
    (h8 : a8 = upd A8 k nd := by rfl) (h9 : a9 = upd A9 k rs := by rfl) (hl : (lv - 0) + 1 = l := by decide) (hn : bf_mx nd (0 - lv) = n := by decide) (hr : bf_mx rs l = r := by decide)
    (hm : md + 1 = m := by decide) (hk : t.toNatClampNeg = k := by decide) (hq : ((t * 16) + md).toNatClampNeg = q := by decide)
    (ht : vp_in t 16 := by exact vp_in_iff.mpr (by decide)) (hin : vp_in ((t * 16) + md) 256 := by exact vp_in_iff.mpr (by decide)) : wpX_enter post (c, w, e, dn, h, wr, la, md, lv, a1, a2, a3, a4, a5, a6, a7, a8, a9, a10, a11, a12, a13, a14) t 1 := by
  refine br_f (by decide) (br_f (by decide) ?_)
  refine bf_acc ht hk h8 h9 hl hn hr ?_
  exact bf_add hin hq hm H
/-- the operation 11 over numbers that are not known -/
theorem bf_en11 {post : St2 → Prop} {t nd rs : Int32} {k : Nat} {A8 A9 : Nat → Int32} (l n r m : Int32) (q : Nat) (hs : md < 2) (H : post (c, w, e, dn, h, wr, la, m, l, a1, a2, a3, a4, a5, a6, a7, upd A8 k n, upd A9 k r, a10, a11, a12, upd a13 q 11, upd a14 q 0))
    (h8 : a8 = upd A8 k nd := by rfl) (h9 : a9 = upd A9 k rs := by rfl) (hl : (lv - 2) + 1 = l := by decide) (hn : bf_mx nd (2 - lv) = n := by decide) (hr : bf_mx rs l = r := by decide)
    (hm : md + 1 = m := by decide) (hk : t.toNatClampNeg = k := by decide) (hq : ((t * 16) + md).toNatClampNeg = q := by decide)
    (ht : vp_in t 16 := by exact vp_in_iff.mpr (by decide)) (hin : vp_in ((t * 16) + md) 256 := by exact vp_in_iff.mpr (by decide)) : wpX_enter post (c, w, e, dn, h, wr, la, md, lv, a1, a2, a3, a4, a5, a6, a7, a8, a9, a10, a11, a12, a13, a14) t 11 := by
  refine br_f (by decide) (br_t (by decide) ?_)
  refine br_f (by decide) (br_f (by decide) ?_)
  unfold wpX_foldTwo
  dsimp only
  refine bf_acc ht hk h8 h9 hl hn hr ?_
  refine bf_knS hs (by decide) ?_
  refine br_t rfl ?_
  exact bf_add hin hq hm H
/-- the operation 14 over a number that is not known -/
theorem bf_en14 {post : St2 → Prop} {t nd rs : Int32} {k : Nat} {A8 A9 : Nat → Int32} (l n r m : Int32) (q : Nat) (hs : bf_nk t md a13) (H : post (c, w, e, dn, h, wr, la, m, l, a1, a2, a3, a4, a5, a6, a7, upd A8 k n, upd A9 k r, a10, a11, a12, upd a13 q 14, upd a14 q 0))
    (h8 : a8 = upd A8 k nd := by rfl) (h9 : a9 = upd A9 k rs := by rfl) (hl : (lv - 1) + 2 = l := by decide) (hn : bf_mx nd (1 - lv) = n := by decide) (hr : bf_mx rs l = r := by decide)
    (hm : md + 1 = m := by decide) (hk : t.toNatClampNeg = k := by decide) (hq : ((t * 16) + md).toNatClampNeg = q := by decide)
    (ht : vp_in t 16 := by exact vp_in_iff.mpr (by decide)) (hin : vp_in ((t * 16) + md) 256 := by exact vp_in_iff.mpr (by decide)) : wpX_enter post (c, w, e, dn, h, wr, la, md, lv, a1, a2, a3, a4, a5, a6, a7, a8, a9, a10, a11, a12, a13, a14) t 14 := by
  refine br_f (by decide) (br_t (by decide) ?_)
  refine br_f (by decide) (br_t (by decide) ?_)
  refine br_t rfl ?_
  unfold wX_enter_74 wpX_foldOne
  dsimp only
  refine nm_e ?_
  refine bf_kn hs ?_
  refine br_t rfl ?_
  refine bf_acc ht hk h8 h9 hl hn hr ?_
  refine br_t rfl ?_
  refine br_t rfl ?_
  unfold wX_foldOne_62
  exact bf_add hin hq hm H
/-- the operation 28 over a number that is not known -/
theorem bf_en28 {post : St2 → Prop} {t nd rs : Int32} {k : Nat} {A8 A9 : Nat → Int32} (l n r m : Int32) (q : Nat) (hs : bf_nk t md a13) (H : post (c, w, e, dn, h, wr, la, m, l, a1, a2, a3, a4, a5, a6, a7, upd A8 k n, upd A9 k r, a10, a11, a12, upd a13 q 28, upd a14 q 0))
    (h8 : a8 = upd A8 k nd := by rfl) (h9 : a9 = upd A9 k rs := by rfl) (hl : (lv - 1) + 1 = l := by decide) (hn : bf_mx nd (1 - lv) = n := by decide) (hr : bf_mx rs l = r := by decide)
    (hm : md + 1 = m := by decide) (hk : t.toNatClampNeg = k := by decide) (hq : ((t * 16) + md).toNatClampNeg = q := by decide)
    (ht : vp_in t 16 := by exact vp_in_iff.mpr (by decide)) (hin : vp_in ((t * 16) + md) 256 := by exact vp_in_iff.mpr (by decide)) : wpX_enter post (c, w, e, dn, h, wr, la, md, lv, a1, a2, a3, a4, a5, a6, a7, a8, a9, a10, a11, a12, a13, a14) t 28 := by
  refine br_f (by decide) (br_t (by decide) ?_)
  refine br_f (by decide) (br_t (by decide) ?_)
  refine br_f (by decide) (br_f (by decide) (br_f (by decide) (br_t rfl ?_)))
  unfold wX_enter_74 wpX_foldOne
  dsimp only
  refine nm_e ?_
  refine bf_kn hs ?_
  refine br_f (by decide) (br_f (by decide) (br_f (by decide) ?_))
  refine bf_acc ht hk h8 h9 hl hn hr ?_
  refine br_t rfl ?_
  exact bf_add hin hq hm H
end
end
section
/-! following the grid: one lemma a kind of cell, then the seven traces that a run asks for -/
section
variable {c w e dn h wr la md lv : Int32} {a1 a2 a3 a4 a5 a6 a7 a8 a9 a10 a11 a12 a13 a14 : Nat → Int32}
/-- a cell that must be done step by step ends the trace -/
theorem bf_foE {post : St2 → Prop} {t x4 x5 x6 x7 : Int32} {n k : Nat} (k4 : Nat) (code : Int32) (hc : a1 k4 = code) (hb : code = 23 ∨ code = 25 ∨ code = 29)
    (H : ∀ b6, post (c, w, e, dn, h, wr, la, md, lv, a1, a2, a3, a4, a5, b6, upd a7 k x6, a8, a9, upd a10 k x4, upd a11 k x5, upd a12 k md, a13, a14))
    (hk : t.toNatClampNeg = k := by decide) (hk4 : x4.toNatClampNeg = k4 := by decide) (h7 : ¬ 12 ≤ x7 := by decide)
    (ht : vp_in t 16 := by exact vp_in_iff.mpr (by decide)) (hin : vp_in x4 32 := by exact vp_in_iff.mpr (by decide)) :
    wX_follow_55 post t (n + 1) x4 x5 x6 x7 c w e dn h wr la md lv a1 a2 a3 a4 a5 a6 a7 a8 a9 a10 a11 a12 a13 a14 := by
  subst hk
  subst hk4
  refine br_f h7 ⟨hin, ?_⟩
  refine bf_br1 (by rw [hc]; exact hb) ?_
  refine br_f (by decide) ?_
  unfold wX_follow_172
  exact ⟨ht, ht, nm_e ⟨ht, nm_e ⟨ht, nm_e ⟨ht, nm_e ⟨ht, nm_e (H _)⟩⟩⟩⟩⟩
/-- a cell that turns -/
theorem bf_foT {post : St2 → Prop} {t x4 x5 x6 x7 : Int32} {n : Nat} (k4 : Nat) (code d y y6 y7 : Int32) (hc : a1 k4 = code)
    (H : ∀ b6, wX_follow_55 post t n y d y6 y7 c w e dn h wr la md lv a1 a2 a3 a4 a5 b6 a7 a8 a9 a10 a11 a12 a13 a14)
    (hb : ¬ code = 22 ∧ ¬ code = 23 ∧ ¬ code = 25 ∧ ¬ code = 26 ∧ ¬ code = 29 := by decide) (h18 : ¬ code < 18 := by decide) (h21 : ¬ 21 < code := by decide)
    (hd : code - 18 = d := by decide) (hy : bf_mv x4 d = y := by decide) (h6 : x6 + 1 = y6 := by decide) (h7' : x7 + 1 = y7 := by decide)
    (hk4 : x4.toNatClampNeg = k4 := by decide) (h7 : ¬ 12 ≤ x7 := by decide)
    (ht : vp_in t 16 := by exact vp_in_iff.mpr (by decide)) (hin : vp_in x4 32 := by exact vp_in_iff.mpr (by decide)) :
    wX_follow_55 post t (n + 1) x4 x5 x6 x7 c w e dn h wr la md lv a1 a2 a3 a4 a5 a6 a7 a8 a9 a10 a11 a12 a13 a14 := by
  subst hk4
  refine br_f h7 ⟨hin, ?_⟩
  refine bf_br0 (by rw [hc]; exact hb) ?_
  refine br_t rfl ⟨hin, ?_⟩
  refine nm_r hc ⟨ht, ht, nm_e ?_⟩
  refine br_f h18 (br_f h21 (nm_r hd ?_))
  unfold wX_follow_153
  refine bf_moved hy ?_
  exact nm_r h6 (nm_r h7' (H _))
/-- a cell that is entered -/
theorem bf_foN {post : St2 → Prop} {t x4 x5 x6 x7 : Int32} {n : Nat} (k4 : Nat) (code y y6 y7 : Int32) (hc : a1 k4 = code)
    (hb : ¬ code = 22 ∧ ¬ code = 23 ∧ ¬ code = 25 ∧ ¬ code = 26 ∧ ¬ code = 29) (h18 : code < 18 ∨ (¬ code < 18 ∧ 21 < code)) (h24 : ¬ code = 24)
    (H : ∀ (b6 : Nat → Int32) (Q : St2 → Prop), (∀ c' w' e' dn' h' wr' la' md' lv' a1' a2' a3' a4' a5' a6' a7' a8' a9' a10' a11' a12' a13' a14', wX_follow_55 post t n y x5 y6 y7 c' w' e' dn' h' wr' la' md' lv' a1' a2' a3' a4' a5' a6' a7' a8' a9' a10' a11' a12' a13' a14' → Q (c', w', e', dn', h', wr', la', md', lv', a1', a2', a3', a4', a5', a6', a7', a8', a9', a10', a11', a12', a13', a14')) → wpX_enter Q (c, w, e, dn, h, wr, la, md, lv, a1, a2, a3, a4, a5, b6, a7, a8, a9, a10, a11, a12, a13, a14) t code)
    (hy : bf_mv x4 x5 = y := by decide) (h6 : x6 + 1 = y6 := by decide) (h7' : x7 + 1 = y7 := by decide)
    (hk4 : x4.toNatClampNeg = k4 := by decide) (h7 : ¬ 12 ≤ x7 := by decide)
    (ht : vp_in t 16 := by exact vp_in_iff.mpr (by decide)) (hin : vp_in x4 32 := by exact vp_in_iff.mpr (by decide)) :
    wX_follow_55 post t (n + 1) x4 x5 x6 x7 c w e dn h wr la md lv a1 a2 a3 a4 a5 a6 a7 a8 a9 a10 a11 a12 a13 a14 := by
  subst hk4
  have key : ∀ b6, wX_follow_126 post (wX_follow_55 post t n) t x4 x5 x6 x7 code c w e dn h wr la md lv a1 a2 a3 a4 a5 b6 a7 a8 a9 a10 a11 a12 a13 a14 := by
    intro b6
    unfold wX_follow_126
    refine br_f h24 (H b6 _ ?_)
    intro c' w' e' dn' h' wr' la' md' lv' a1' a2' a3' a4' a5' a6' a7' a8' a9' a10' a11' a12' a13' a14' hq
    show wX_follow_153 post (wX_follow_55 post t n) t x4 x5 x6 x7 c' w' e' dn' h' wr' la' md' lv' a1' a2' a3' a4' a5' a6' a7' a8' a9' a10' a11' a12' a13' a14'
    unfold wX_follow_153
    refine bf_moved hy ?_
    exact nm_r h6 (nm_r h7' hq)
  refine br_f h7 ⟨hin, ?_⟩
  refine bf_br0 (by rw [hc]; exact hb) ?_
  refine br_t rfl ⟨hin, ?_⟩
  refine nm_r hc ⟨ht, ht, nm_e ?_⟩
  rcases h18 with h | ⟨h, h'⟩
  · exact br_t h (key _)
  · exact br_f h (br_t h' (key _))
/-- the codes that do nothing -/
def bf_pl (p : Int32) : Prop := p = 0 ∨ p = 30 ∨ p = 31
/-- a cell that does nothing -/
theorem bf_foP {post : St2 → Prop} {t x4 x5 x6 x7 : Int32} {n : Nat} (k4 : Nat) (code y y6 y7 : Int32) (hc : a1 k4 = code) (hp : bf_pl code)
    (H : ∀ b6, wX_follow_55 post t n y x5 y6 y7 c w e dn h wr la md lv a1 a2 a3 a4 a5 b6 a7 a8 a9 a10 a11 a12 a13 a14)
    (hy : bf_mv x4 x5 = y := by decide) (h6 : x6 + 1 = y6 := by decide) (h7' : x7 + 1 = y7 := by decide)
    (hk4 : x4.toNatClampNeg = k4 := by decide) (h7 : ¬ 12 ≤ x7 := by decide)
    (ht : vp_in t 16 := by exact vp_in_iff.mpr (by decide)) (hin : vp_in x4 32 := by exact vp_in_iff.mpr (by decide)) :
    wX_follow_55 post t (n + 1) x4 x5 x6 x7 c w e dn h wr la md lv a1 a2 a3 a4 a5 a6 a7 a8 a9 a10 a11 a12 a13 a14 := by
  refine bf_foN k4 code y y6 y7 hc ?_ ?_ ?_ (fun b6 Q hQ => bf_enN hp (hQ _ _ _ _ _ _ _ _ _ _ _ _ _ _ _ _ _ _ _ _ _ _ _ (H b6))) hy h6 h7' hk4 h7 ht hin
  · rcases hp with rfl | rfl | rfl <;> decide
  · rcases hp with rfl | rfl | rfl <;> decide
  · rcases hp with rfl | rfl | rfl <;> decide
/-- the way into the loop -/
theorem bf_fol {post : St2 → Prop} {t x d key : Int32} {k : Nat} (n : Nat) (H : ∀ b6, wX_follow_55 post t n x d 0 0 c w e dn h wr la 0 0 a1 a2 a3 a4 (upd a5 k key) b6 a7 (upd a8 k 0) (upd a9 k 0) a10 a11 a12 a13 a14)
    (hkey : x + (32 * d) = key := by decide) (hk : t.toNatClampNeg = k := by decide) (ht : vp_in t 16 := by exact vp_in_iff.mpr (by decide)) :
    wpX_follow post (c, w, e, dn, h, wr, la, md, lv, a1, a2, a3, a4, a5, a6, a7, a8, a9, a10, a11, a12, a13, a14) t x d := by
  subst hk
  unfold wpX_follow
  dsimp only
  exact ⟨ht, nm_r (by rw [hkey]) ⟨ht, nm_e ⟨ht, nm_e ⟨ht, nm_e ⟨n, H _⟩⟩⟩⟩⟩
/-- the grid that the law lays, as far as a run reads it -/
def bf_G (p : Int32) (g : Nat → Int32) : Prop := g 0 = 28 ∧ g 1 = 20 ∧ g 2 = p ∧ g 3 = p ∧ g 4 = p ∧ g 5 = p ∧ g 6 = p ∧ g 7 = 19 ∧ g 9 = 18 ∧ g 10 = 14 ∧ g 11 = 25 ∧ g 12 = 1 ∧ g 13 = 11 ∧ g 14 = 14 ∧ g 15 = 23 ∧ g 23 = 29
/-- a trace of no step -/
theorem bf_fo11 {post : St2 → Prop} {p : Int32} (hG : bf_G p a1) (H : ∀ b6, post (c, w, e, dn, h, wr, la, 0, 0, a1, a2, a3, a4, upd a5 11 11, b6, upd a7 11 0, upd a8 11 0, upd a9 11 0, upd a10 11 11, upd a11 11 0, upd a12 11 0, a13, a14)) : wpX_follow post (c, w, e, dn, h, wr, la, md, lv, a1, a2, a3, a4, a5, a6, a7, a8, a9, a10, a11, a12, a13, a14) 11 11 0 := by
  obtain ⟨g0, g1, g2, g3, g4, g5, g6, g7, g9, g10, g11, g12, g13, g14, g15, g23⟩ := hG
  refine bf_fol (k := 11) (key := 11) 1 (fun b6 => ?_)
  exact bf_foE 11 25 g11 (by decide) (fun b6 => H b6)
theorem bf_fo15 {post : St2 → Prop} {p : Int32} (hG : bf_G p a1) (H : ∀ b6, post (c, w, e, dn, h, wr, la, 0, 0, a1, a2, a3, a4, upd a5 15 15, b6, upd a7 15 0, upd a8 15 0, upd a9 15 0, upd a10 15 15, upd a11 15 0, upd a12 15 0, a13, a14)) : wpX_follow post (c, w, e, dn, h, wr, la, md, lv, a1, a2, a3, a4, a5, a6, a7, a8, a9, a10, a11, a12, a13, a14) 15 15 0 := by
  obtain ⟨g0, g1, g2, g3, g4, g5, g6, g7, g9, g10, g11, g12, g13, g14, g15, g23⟩ := hG
  refine bf_fol (k := 15) (key := 15) 1 (fun b6 => ?_)
  exact bf_foE 15 23 g15 (by decide) (fun b6 => H b6)
theorem bf_fo13 {post : St2 → Prop} {p : Int32} (hG : bf_G p a1) (H : ∀ b6, post (c, w, e, dn, h, wr, la, 0, 0, a1, a2, a3, a4, upd a5 13 87, b6, upd a7 13 0, upd a8 13 0, upd a9 13 0, upd a10 13 23, upd a11 13 2, upd a12 13 0, a13, a14)) : wpX_follow post (c, w, e, dn, h, wr, la, md, lv, a1, a2, a3, a4, a5, a6, a7, a8, a9, a10, a11, a12, a13, a14) 13 23 2 := by
  obtain ⟨g0, g1, g2, g3, g4, g5, g6, g7, g9, g10, g11, g12, g13, g14, g15, g23⟩ := hG
  refine bf_fol (k := 13) (key := 87) 1 (fun b6 => ?_)
  exact bf_foE 23 29 g23 (by decide) (fun b6 => H b6)
/-- from the first cell: the input, then as from the second one -/
theorem bf_fo0 {post : St2 → Prop} {p : Int32} (hG : bf_G p a1) (H : ∀ b6, post (c, w, e, dn, h, wr, la, 2, 1, a1, a2, a3, a4, upd a5 0 0, b6, upd a7 0 4, upd a8 0 1, upd a9 0 1, upd a10 0 11, upd a11 0 0, upd a12 0 2, upd (upd a13 0 28) 1 14, upd (upd a14 0 0) 1 0)) : wpX_follow post (c, w, e, dn, h, wr, la, md, lv, a1, a2, a3, a4, a5, a6, a7, a8, a9, a10, a11, a12, a13, a14) 0 0 0 := by
  obtain ⟨g0, g1, g2, g3, g4, g5, g6, g7, g9, g10, g11, g12, g13, g14, g15, g23⟩ := hG
  refine bf_fol (k := 0) (key := 0) 5 (fun b6 => ?_)
  refine bf_foN 0 28 1 1 1 g0 (by decide) (by decide) (by decide) (fun b6 Q hQ => ?_)
  refine bf_en28 0 1 0 1 0 (Or.inl (by decide)) (hQ _ _ _ _ _ _ _ _ _ _ _ _ _ _ _ _ _ _ _ _ _ _ _ ?_)
  refine bf_foT 1 20 2 9 2 2 g1 (fun b6 => ?_)
  refine bf_foT 9 18 0 10 3 3 g9 (fun b6 => ?_)
  refine bf_foN 10 14 11 4 4 g10 (by decide) (by decide) (by decide) (fun b6 Q hQ => ?_)
  refine bf_en14 1 1 1 2 1 (Or.inr ⟨0, by decide, vp_in_iff.mpr (by decide), by decide, by rw [pk_us]; decide⟩) (hQ _ _ _ _ _ _ _ _ _ _ _ _ _ _ _ _ _ _ _ _ _ _ _ ?_)
  exact bf_foE 11 25 g11 (by decide) (fun b6 => H b6)
/-- from the second cell down into the loop -/
theorem bf_fo1 {post : St2 → Prop} {p : Int32} (hG : bf_G p a1) (H : ∀ b6, post (c, w, e, dn, h, wr, la, 1, 1, a1, a2, a3, a4, upd a5 1 1, b6, upd a7 1 3, upd a8 1 1, upd a9 1 1, upd a10 1 11, upd a11 1 0, upd a12 1 1, upd a13 16 14, upd a14 16 0)) : wpX_follow post (c, w, e, dn, h, wr, la, md, lv, a1, a2, a3, a4, a5, a6, a7, a8, a9, a10, a11, a12, a13, a14) 1 1 0 := by
  obtain ⟨g0, g1, g2, g3, g4, g5, g6, g7, g9, g10, g11, g12, g13, g14, g15, g23⟩ := hG
  refine bf_fol (k := 1) (key := 1) 4 (fun b6 => ?_)
  refine bf_foT 1 20 2 9 1 1 g1 (fun b6 => ?_)
  refine bf_foT 9 18 0 10 2 2 g9 (fun b6 => ?_)
  refine bf_foN 10 14 11 3 3 g10 (by decide) (by decide) (by decide) (fun b6 Q hQ => ?_)
  refine bf_en14 1 1 1 1 16 (Or.inl (by decide)) (hQ _ _ _ _ _ _ _ _ _ _ _ _ _ _ _ _ _ _ _ _ _ _ _ ?_)
  exact bf_foE 11 25 g11 (by decide) (fun b6 => H b6)
/-- behind the show: one less, twice -/
theorem bf_fo12 {post : St2 → Prop} {p : Int32} (hG : bf_G p a1) (H : ∀ b6, post (c, w, e, dn, h, wr, la, 3, 1, a1, a2, a3, a4, upd a5 12 12, b6, upd a7 12 3, upd a8 12 1, upd a9 12 1, upd a10 12 15, upd a11 12 0, upd a12 12 3, upd (upd (upd a13 192 40) 193 11) 194 14, upd (upd (upd a14 192 1) 193 0) 194 0)) : wpX_follow post (c, w, e, dn, h, wr, la, md, lv, a1, a2, a3, a4, a5, a6, a7, a8, a9, a10, a11, a12, a13, a14) 12 12 0 := by
  obtain ⟨g0, g1, g2, g3, g4, g5, g6, g7, g9, g10, g11, g12, g13, g14, g15, g23⟩ := hG
  refine bf_fol (k := 12) (key := 12) 4 (fun b6 => ?_)
  refine bf_foN 12 1 13 1 1 g12 (by decide) (by decide) (by decide) (fun b6 Q hQ => ?_)
  refine bf_en1 1 0 1 1 192 (hQ _ _ _ _ _ _ _ _ _ _ _ _ _ _ _ _ _ _ _ _ _ _ _ ?_)
  refine bf_foN 13 11 14 2 2 g13 (by decide) (by decide) (by decide) (fun b6 Q hQ => ?_)
  refine bf_en11 0 1 1 2 193 (by decide) (hQ _ _ _ _ _ _ _ _ _ _ _ _ _ _ _ _ _ _ _ _ _ _ _ ?_)
  refine bf_foN 14 14 15 3 3 g14 (by decide) (by decide) (by decide) (fun b6 Q hQ => ?_)
  refine bf_en14 1 1 1 3 194 (Or.inr ⟨193, by decide, vp_in_iff.mpr (by decide), by decide, by rw [pk_us]; decide⟩) (hQ _ _ _ _ _ _ _ _ _ _ _ _ _ _ _ _ _ _ _ _ _ _ _ ?_)
  exact bf_foE 15 23 g15 (by decide) (fun b6 => H b6)
/-- the long way back into the loop, over the five cells that do nothing -/
theorem bf_fo8 {post : St2 → Prop} {p : Int32} (hp : bf_pl p) (hG : bf_G p a1) (H : ∀ b6, post (c, w, e, dn, h, wr, la, 1, 1, a1, a2, a3, a4, upd a5 8 103, b6, upd a7 8 9, upd a8 8 1, upd a9 8 1, upd a10 8 11, upd a11 8 0, upd a12 8 1, upd a13 128 14, upd a14 128 0)) : wpX_follow post (c, w, e, dn, h, wr, la, md, lv, a1, a2, a3, a4, a5, a6, a7, a8, a9, a10, a11, a12, a13, a14) 8 7 3 := by
  obtain ⟨g0, g1, g2, g3, g4, g5, g6, g7, g9, g10, g11, g12, g13, g14, g15, g23⟩ := hG
  refine bf_fol (k := 8) (key := 103) 10 (fun b6 => ?_)
  refine bf_foT 7 19 1 6 1 1 g7 (fun b6 => ?_)
  refine bf_foP 6 p 5 2 2 g6 hp (fun b6 => ?_)
  refine bf_foP 5 p 4 3 3 g5 hp (fun b6 => ?_)
  refine bf_foP 4 p 3 4 4 g4 hp (fun b6 => ?_)
  refine bf_foP 3 p 2 5 5 g3 hp (fun b6 => ?_)
  refine bf_foP 2 p 1 6 6 g2 hp (fun b6 => ?_)
  refine bf_foT 1 20 2 9 7 7 g1 (fun b6 => ?_)
  refine bf_foT 9 18 0 10 8 8 g9 (fun b6 => ?_)
  refine bf_foN 10 14 11 9 9 g10 (by decide) (by decide) (by decide) (fun b6 Q hQ => ?_)
  refine bf_en14 1 1 1 1 128 (Or.inl (by decide)) (hQ _ _ _ _ _ _ _ _ _ _ _ _ _ _ _ _ _ _ _ _ _ _ _ ?_)
  exact bf_foE 11 25 g11 (by decide) (fun b6 => H b6)
end
end
section
/-! a run's pieces: pile, output, single steps, stored traces -/
section
variable {c w e dn h wr la md lv : Int32} {a1 a2 a3 a4 a5 a6 a7 a8 a9 a10 a11 a12 a13 a14 : Nat → Int32}
theorem bf_pop {post : Int32 → St2 → Prop} (h' : Int32) (k : Nat) (H : post (a3 k) (c, w, e, dn, h', wr, la, md, lv, a1, a2, a3, a4, a5, a6, a7, a8, a9, a10, a11, a12, a13, a14))
    (h0 : ¬ h = 0 := by decide) (hh : h - 1 = h' := by decide) (hk : h'.toNatClampNeg = k := by decide) (hin : vp_in h' 10 := by exact vp_in_iff.mpr (by decide)) : wpX_pop post (c, w, e, dn, h, wr, la, md, lv, a1, a2, a3, a4, a5, a6, a7, a8, a9, a10, a11, a12, a13, a14) := by
  subst hk
  exact br_f h0 (nm_r hh ⟨hin, H⟩)
theorem bf_push {post : St2 → Prop} {x : Int32} (h' : Int32) (k : Nat) (H : post (c, w, e, dn, h', wr, la, md, lv, a1, a2, upd a3 k x, a4, a5, a6, a7, a8, a9, a10, a11, a12, a13, a14))
    (h0 : ¬ h = 10 := by decide) (hh : h + 1 = h' := by decide) (hk : h.toNatClampNeg = k := by decide) (hin : vp_in h 10 := by exact vp_in_iff.mpr (by decide)) : wpX_push post (c, w, e, dn, h, wr, la, md, lv, a1, a2, a3, a4, a5, a6, a7, a8, a9, a10, a11, a12, a13, a14) x := by
  subst hk
  exact br_f h0 ⟨hin, nm_e (nm_r hh H)⟩
/-- 14 at height 1 -/
theorem bf_wk14 {post : St2 → Prop} (H : post (c, w, e, dn, 2, wr, la, md, lv, a1, a2, upd (upd a3 0 (a3 0)) 1 (a3 0), a4, a5, a6, a7, a8, a9, a10, a11, a12, a13, a14)) : wpX_work post (c, w, e, dn, 1, wr, la, md, lv, a1, a2, a3, a4, a5, a6, a7, a8, a9, a10, a11, a12, a13, a14) 14 := by
  unfold wpX_work
  dsimp only
  refine bf_pop 0 0 ?_
  try dsimp only
  refine br_f (by decide) (br_t (by decide) ?_)
  unfold wX_work_40
  refine br_t rfl ?_
  refine bf_push 1 0 ?_
  try dsimp only
  refine bf_push 2 1 ?_
  try dsimp only
  exact H
/-- 11 at height 2 -/
theorem bf_wk11 {post : St2 → Prop} (H : post (c, w, e, dn, 1, wr, la, md, lv, a1, a2, upd a3 0 (a3 0 - a3 1), a4, a5, a6, a7, a8, a9, a10, a11, a12, a13, a14)) : wpX_work post (c, w, e, dn, 2, wr, la, md, lv, a1, a2, a3, a4, a5, a6, a7, a8, a9, a10, a11, a12, a13, a14) 11 := by
  unfold wpX_work
  dsimp only
  refine bf_pop 1 1 ?_
  try dsimp only
  refine br_f (by decide) (br_f (by decide) ?_)
  refine bf_pop 0 0 ?_
  try dsimp only
  refine br_f (by decide) (br_t rfl ?_)
  refine bf_push 1 0 ?_
  try dsimp only
  exact H
/-- 28 over the empty pile -/
theorem bf_wk28 {post : St2 → Prop} (H : post (c, w, e, dn, 1, wr, la, md, lv, a1, a2, upd a3 0 (a2 0), a4, a5, a6, a7, a8, a9, a10, a11, a12, a13, a14)) : wpX_work post (c, w, e, dn, 0, wr, la, md, lv, a1, a2, a3, a4, a5, a6, a7, a8, a9, a10, a11, a12, a13, a14) 28 := by
  unfold wpX_work
  dsimp only
  refine br_t rfl ?_
  try dsimp only
  refine br_f (by decide) (br_t (by decide) ?_)
  unfold wX_work_40
  refine br_f (by decide) (br_f (by decide) (br_f (by decide) (br_f (by decide) (br_t rfl ⟨vp_in_iff.mpr (by decide), ?_⟩))))
  have e : ((0 : Int32) &&& 3).toNatClampNeg = 0 := by decide
  rw [e]
  refine bf_push 1 0 ?_
  try dsimp only
  exact H
/-- the step at the first cell: the input -/
theorem bf_st28 {post : St2 → Prop} (dn' : Int32) (hc : a1 0 = 28) (hd : dn + 1 = dn') (H : post (1, 0, 0, dn', 1, wr, la, md, lv, a1, a2, upd a3 0 (a2 0), a4, a5, a6, a7, a8, a9, a10, a11, a12, a13, a14)) : wpX_step post (0, 0, 0, dn, 0, wr, la, md, lv, a1, a2, a3, a4, a5, a6, a7, a8, a9, a10, a11, a12, a13, a14) := by
  unfold wpX_step
  dsimp only
  refine ⟨vp_in_iff.mpr (by decide), nm_r (show a1 ((0 : Int32).toNatClampNeg) = 28 from hc) (nm_r hd ?_)⟩
  refine br_f (by decide) (br_t (by decide) ?_)
  refine br_f (by decide) (br_f (by decide) ?_)
  refine br_f (by decide) (br_t rfl ?_)
  unfold wX_step_63
  refine bf_wk28 ?_
  try dsimp only
  refine br_t rfl ?_
  refine bf_moved (y := 1) (by decide) ?_
  exact H
/-- the step at cell 11, the output full -/
theorem bf_st25f {post : St2 → Prop} (dn' : Int32) (hc : a1 11 = 25) (hd : dn + 1 = dn') (H : post (11, 0, 4, dn', 1, 16, la, md, lv, a1, a2, a3, a4, a5, a6, a7, a8, a9, a10, a11, a12, a13, a14)) : wpX_step post (11, 0, 0, dn, 2, 16, la, md, lv, a1, a2, a3, a4, a5, a6, a7, a8, a9, a10, a11, a12, a13, a14) := by
  unfold wpX_step
  dsimp only
  refine ⟨vp_in_iff.mpr (by decide), nm_r (show a1 ((11 : Int32).toNatClampNeg) = 25 from hc) (nm_r hd ?_)⟩
  refine br_f (by decide) (br_t (by decide) ?_)
  refine br_f (by decide) (br_f (by decide) ?_)
  refine br_f (by decide) (br_f (by decide) (br_f (by decide) (br_t (by decide) ?_)))
  unfold wX_step_94
  refine br_f (by decide) (br_f (by decide) (br_f (by decide) (br_t rfl ?_)))
  refine bf_pop 1 1 ?_
  try dsimp only
  refine br_t rfl ?_
  try dsimp only
  refine br_f (by decide) ?_
  exact H
/-- the step at cell 11: the top is shown -/
theorem bf_st25 {post : St2 → Prop} (dn' wr' : Int32) (j : Nat) (hj : j < 16) (hw : wr = nI j) (hw' : wr + 1 = wr') (hc : a1 11 = 25) (hd : dn + 1 = dn') (H : post (12, 0, 0, dn', 1, wr', la, md, lv, a1, a2, a3, upd a4 j (a3 1), a5, a6, a7, a8, a9, a10, a11, a12, a13, a14)) : wpX_step post (11, 0, 0, dn, 2, wr, la, md, lv, a1, a2, a3, a4, a5, a6, a7, a8, a9, a10, a11, a12, a13, a14) := by
  unfold wpX_step
  dsimp only
  refine ⟨vp_in_iff.mpr (by decide), nm_r (show a1 ((11 : Int32).toNatClampNeg) = 25 from hc) (nm_r hd ?_)⟩
  refine br_f (by decide) (br_t (by decide) ?_)
  refine br_f (by decide) (br_f (by decide) ?_)
  refine br_f (by decide) (br_f (by decide) (br_f (by decide) (br_t (by decide) ?_)))
  unfold wX_step_94
  refine br_f (by decide) (br_f (by decide) (br_f (by decide) (br_t rfl ?_)))
  refine bf_pop 1 1 ?_
  try dsimp only
  subst hw
  have hk : (nI j).toNatClampNeg = j := nI_clamp (by omega)
  refine br_f (fun z => ?_) ⟨vp_in_nI hj (by omega), nm_r (by rw [hk]) (nm_r hw' ?_)⟩
  · exact absurd ((nI_eq (b := 16) (by omega) (by omega)).mp z) (by omega)
  try dsimp only
  refine br_t rfl ?_
  refine bf_moved (y := 12) (by decide) ?_
  exact H
/-- the step at cell 15: down if the top is 0, up if not -/
theorem bf_st23z {post : St2 → Prop} (dn' : Int32) (hz : a3 1 = 0) (hc : a1 15 = 23) (hd : dn + 1 = dn') (H : post (23, 2, 0, dn', 1, wr, la, md, lv, a1, a2, a3, a4, a5, a6, a7, a8, a9, a10, a11, a12, a13, a14)) : wpX_step post (15, 0, 0, dn, 2, wr, la, md, lv, a1, a2, a3, a4, a5, a6, a7, a8, a9, a10, a11, a12, a13, a14) := by
  unfold wpX_step
  dsimp only
  refine ⟨vp_in_iff.mpr (by decide), nm_r (show a1 ((15 : Int32).toNatClampNeg) = 23 from hc) (nm_r hd ?_)⟩
  refine br_f (by decide) (br_t (by decide) ?_)
  refine br_f (by decide) (br_f (by decide) ?_)
  refine br_f (by decide) (br_f (by decide) (br_f (by decide) (br_t (by decide) ?_)))
  unfold wX_step_94
  refine br_f (by decide) (br_t rfl ?_)
  unfold wX_step_106
  refine bf_pop 1 1 ?_
  try dsimp only
  refine br_t hz ?_
  refine nm_r (e' := 2) (by decide) ?_
  refine br_t rfl ?_
  refine bf_moved (y := 23) (by decide) ?_
  exact H
theorem bf_st23n {post : St2 → Prop} (dn' : Int32) (hz : ¬ a3 1 = 0) (hc : a1 15 = 23) (hd : dn + 1 = dn') (H : post (7, 3, 0, dn', 1, wr, la, md, lv, a1, a2, a3, a4, a5, a6, a7, a8, a9, a10, a11, a12, a13, a14)) : wpX_step post (15, 0, 0, dn, 2, wr, la, md, lv, a1, a2, a3, a4, a5, a6, a7, a8, a9, a10, a11, a12, a13, a14) := by
  unfold wpX_step
  dsimp only
  refine ⟨vp_in_iff.mpr (by decide), nm_r (show a1 ((15 : Int32).toNatClampNeg) = 23 from hc) (nm_r hd ?_)⟩
  refine br_f (by decide) (br_t (by decide) ?_)
  refine br_f (by decide) (br_f (by decide) ?_)
  refine br_f (by decide) (br_f (by decide) (br_f (by decide) (br_t (by decide) ?_)))
  unfold wX_step_94
  refine br_f (by decide) (br_t rfl ?_)
  unfold wX_step_106
  refine bf_pop 1 1 ?_
  try dsimp only
  refine br_f hz ?_
  refine nm_r (e' := 3) (by decide) ?_
  refine br_t rfl ?_
  refine bf_moved (y := 7) (by decide) ?_
  exact H
/-- the step at cell 23: the end -/
theorem bf_st29 {post : St2 → Prop} (dn' : Int32) (hc : a1 23 = 29) (hd : dn + 1 = dn') (H : post (23, 2, 1, dn', h, wr, la, md, lv, a1, a2, a3, a4, a5, a6, a7, a8, a9, a10, a11, a12, a13, a14)) : wpX_step post (23, 2, 0, dn, h, wr, la, md, lv, a1, a2, a3, a4, a5, a6, a7, a8, a9, a10, a11, a12, a13, a14) := by
  unfold wpX_step
  dsimp only
  refine ⟨vp_in_iff.mpr (by decide), nm_r (show a1 ((23 : Int32).toNatClampNeg) = 29 from hc) (nm_r hd ?_)⟩
  refine br_f (by decide) (br_t (by decide) ?_)
  refine br_f (by decide) (br_f (by decide) ?_)
  refine br_f (by decide) (br_f (by decide) (br_f (by decide) (br_t (by decide) ?_)))
  unfold wX_step_94
  refine br_f (by decide) (br_f (by decide) (br_f (by decide) (br_f (by decide) (br_f (by decide) (br_t rfl ?_)))))
  refine br_f (by decide) ?_
  exact H
/-- whether a trace can be run -/
theorem bf_rn0 {post : Int32 → Prop} {t : Int32} (k : Nat) (h7 : a7 k = 0) (H : post 0) (hk : t.toNatClampNeg = k := by decide) (ht : vp_in t 16 := by exact vp_in_iff.mpr (by decide)) : wpX_runnable post (c, w, e, dn, h, wr, la, md, lv, a1, a2, a3, a4, a5, a6, a7, a8, a9, a10, a11, a12, a13, a14) t := by
  subst hk
  exact ⟨ht, br_t (by rw [h7]; decide) H⟩
theorem bf_rnH {post : Int32 → Prop} {t : Int32} (k : Nat) (h8 : h < a8 k) (H : post 0) (hk : t.toNatClampNeg = k := by decide) (ht : vp_in t 16 := by exact vp_in_iff.mpr (by decide)) : wpX_runnable post (c, w, e, dn, h, wr, la, md, lv, a1, a2, a3, a4, a5, a6, a7, a8, a9, a10, a11, a12, a13, a14) t := by
  subst hk
  exact ⟨ht, br_c (fun _ => H) (fun _ => ⟨ht, br_t h8 H⟩)⟩
theorem bf_rn1 {post : Int32 → Prop} {t : Int32} (k : Nat) (st dn' : Int32) (h7 : a7 k = st) (h8 : a8 k = 1) (h9 : a9 k = 1) (hd : dn + st = dn') (hle : ¬ 400 < dn') (H : post 1) (hst : ¬ st ≤ 0 := by decide)
    (hk : t.toNatClampNeg = k := by decide) (ht : vp_in t 16 := by exact vp_in_iff.mpr (by decide)) : wpX_runnable post (c, w, e, dn, 1, wr, la, md, lv, a1, a2, a3, a4, a5, a6, a7, a8, a9, a10, a11, a12, a13, a14) t := by
  subst hk
  unfold wpX_runnable
  dsimp only
  rw [h7, h8, h9, hd]
  exact ⟨ht, br_f hst ⟨ht, br_f (by decide) ⟨ht, br_f (by decide) ⟨ht, br_f hle H⟩⟩⟩⟩
/-- a trace of one operation, 14 -/
theorem bf_rt14 {post : St2 → Prop} {t : Int32} (k q : Nat) (st gc gw dn' : Int32) (h7 : a7 k = st) (h10 : a10 k = gc) (h11 : a11 k = gw) (h12 : a12 k = 1) (h13 : a13 q = 14) (hd : dn + st = dn')
    (H : post (gc, gw, e, dn', 2, wr, la, md, lv, a1, a2, upd (upd a3 0 (a3 0)) 1 (a3 0), a4, a5, a6, a7, a8, a9, a10, a11, a12, a13, a14))
    (hq : ((t * 16) + 0).toNatClampNeg = q := by decide) (hin : vp_in ((t * 16) + 0) 256 := by exact vp_in_iff.mpr (by decide))
    (hk : t.toNatClampNeg = k := by decide) (ht : vp_in t 16 := by exact vp_in_iff.mpr (by decide)) : wpX_runTrace post (c, w, e, dn, 1, wr, la, md, lv, a1, a2, a3, a4, a5, a6, a7, a8, a9, a10, a11, a12, a13, a14) t := by
  subst hk
  subst hq
  refine ⟨2, ?_⟩
  refine ⟨ht, br_f (by rw [h12]; decide) ⟨hin, nm_r h13 ⟨hin, nm_e ?_⟩⟩⟩
  refine br_f (by decide) (br_f (by decide) (br_f (by decide) ?_))
  refine bf_wk14 ?_
  try dsimp only
  refine nm_r (e' := 1) (by decide) ?_
  refine ⟨ht, br_t (by rw [h12]; decide) ⟨ht, nm_r (e' := dn') (by rw [h7]; exact hd) ⟨ht, nm_r h10 ⟨ht, nm_r h11 ?_⟩⟩⟩⟩
  exact H
/-- the trace at cell 12: 1, 11, 14 -/
theorem bf_rt12 {post : St2 → Prop} (dn' : Int32) (h7 : a7 12 = 3) (h10 : a10 12 = 15) (h11 : a11 12 = 0) (h12 : a12 12 = 3) (o0 : a13 192 = 40) (v0 : a14 192 = 1) (o1 : a13 193 = 11) (o2 : a13 194 = 14) (hd : dn + 3 = dn')
    (b3 : Nat → Int32) (hb : upd (upd (upd (upd a3 1 1) 0 (a3 0 - 1)) 0 (a3 0 - 1)) 1 (a3 0 - 1) = b3)
    (H : post (15, 0, e, dn', 2, wr, la, md, lv, a1, a2, b3, a4, a5, a6, a7, a8, a9, a10, a11, a12, a13, a14)) : wpX_runTrace post (c, w, e, dn, 1, wr, la, md, lv, a1, a2, a3, a4, a5, a6, a7, a8, a9, a10, a11, a12, a13, a14) 12 := by
  have ht : vp_in (12 : Int32) 16 := vp_in_iff.mpr (by decide)
  have hk : (12 : Int32).toNatClampNeg = 12 := by decide
  refine ⟨4, ?_⟩
  refine ⟨ht, br_f (by rw [hk, h12]; decide) ⟨vp_in_iff.mpr (by decide), nm_r (e' := 40) o0 ⟨vp_in_iff.mpr (by decide), nm_r (e' := 1) v0 ?_⟩⟩⟩
  refine br_t rfl ?_
  refine bf_push 2 1 ?_
  try dsimp only
  refine nm_r (e' := 1) (by decide) ?_
  refine ⟨ht, br_f (by rw [hk, h12]; decide) ⟨vp_in_iff.mpr (by decide), nm_r (e' := 11) o1 ⟨vp_in_iff.mpr (by decide), nm_e ?_⟩⟩⟩
  refine br_f (by decide) (br_f (by decide) (br_f (by decide) ?_))
  refine bf_wk11 ?_
  try dsimp only
  refine nm_r (e' := 2) (by decide) ?_
  refine ⟨ht, br_f (by rw [hk, h12]; decide) ⟨vp_in_iff.mpr (by decide), nm_r (e' := 14) o2 ⟨vp_in_iff.mpr (by decide), nm_e ?_⟩⟩⟩
  refine br_f (by decide) (br_f (by decide) (br_f (by decide) ?_))
  refine bf_wk14 ?_
  try dsimp only
  refine nm_r (e' := 3) (by decide) ?_
  refine ⟨ht, br_t (by rw [hk, h12]; decide) ⟨ht, nm_r (e' := dn') (by rw [hk, h7]; exact hd) ⟨ht, nm_r (e' := 15) h10 ⟨ht, nm_r (e' := 0) h11 ?_⟩⟩⟩⟩
  have e0 : upd a3 1 1 0 = a3 0 := pk_un (by decide)
  have e1 : upd a3 1 1 1 = 1 := pk_us
  have e2 : upd (upd a3 1 1) 0 (a3 0 - 1) 0 = a3 0 - 1 := pk_us
  rw [e0, e1, e2, hb]
  exact H
end
end
section
/-! what is stored of the seven traces, and the trace for the present cell -/
def bf_K (a5 a7 a8 a9 a10 a11 a12 a13 a14 : Nat → Int32) : Prop :=
  (a5 0 = 0 → a8 0 = 1) ∧
  (a5 1 = 1 → a7 1 = 3 ∧ a8 1 = 1 ∧ a9 1 = 1 ∧ a10 1 = 11 ∧ a11 1 = 0 ∧ a12 1 = 1 ∧ a13 16 = 14) ∧
  (a5 11 = 11 → a7 11 = 0) ∧
  (a5 12 = 12 → a7 12 = 3 ∧ a8 12 = 1 ∧ a9 12 = 1 ∧ a10 12 = 15 ∧ a11 12 = 0 ∧ a12 12 = 3 ∧ a13 192 = 40 ∧ a14 192 = 1 ∧ a13 193 = 11 ∧ a13 194 = 14) ∧
  (a5 15 = 15 → a7 15 = 0) ∧
  (a5 8 = 103 → a7 8 = 9 ∧ a8 8 = 1 ∧ a9 8 = 1 ∧ a10 8 = 11 ∧ a11 8 = 0 ∧ a12 8 = 1 ∧ a13 128 = 14) ∧
  (a5 13 = 87 → a7 13 = 0)
section
variable {c w e dn h wr la md lv : Int32} {a1 a2 a3 a4 a5 a6 a7 a8 a9 a10 a11 a12 a13 a14 : Nat → Int32}
theorem bf_th0 {post : Int32 → St2 → Prop} {p : Int32} (hG : bf_G p a1) (hK : bf_K a5 a7 a8 a9 a10 a11 a12 a13 a14) (H : ∀ (md' lv' : Int32) (a5' a6' a7' a8' a9' a10' a11' a12' a13' a14' : Nat → Int32), bf_K a5' a7' a8' a9' a10' a11' a12' a13' a14' → a8' 0 = 1 → post 0 (0, 0, e, dn, h, wr, la, md', lv', a1, a2, a3, a4, a5', a6', a7', a8', a9', a10', a11', a12', a13', a14')) : wpX_traceHere post (0, 0, e, dn, h, wr, la, md, lv, a1, a2, a3, a4, a5, a6, a7, a8, a9, a10, a11, a12, a13, a14) := by
  obtain ⟨k0, k1, k11, k12, k15, k8, k13⟩ := hK
  unfold wpX_traceHere
  dsimp only
  refine nm_r (e' := 0) (by decide) (nm_r (e' := 0) (by decide) ⟨vp_in_iff.mpr (by decide), ?_⟩)
  by_cases g : a5 0 = 0
  · exact br_t g (H _ _ _ _ _ _ _ _ _ _ _ _ ⟨k0, k1, k11, k12, k15, k8, k13⟩ (k0 g))
  · refine br_f g (bf_fo0 hG (fun b6 => H _ _ _ _ _ _ _ _ _ _ _ _ ⟨fun _ => rfl, k1, k11, k12, k15, k8, k13⟩ rfl))
theorem bf_th1 {post : Int32 → St2 → Prop} {p : Int32} (hG : bf_G p a1) (hK : bf_K a5 a7 a8 a9 a10 a11 a12 a13 a14) (H : ∀ (md' lv' : Int32) (a5' a6' a7' a8' a9' a10' a11' a12' a13' a14' : Nat → Int32), bf_K a5' a7' a8' a9' a10' a11' a12' a13' a14' → a7' 1 = 3 ∧ a8' 1 = 1 ∧ a9' 1 = 1 ∧ a10' 1 = 11 ∧ a11' 1 = 0 ∧ a12' 1 = 1 ∧ a13' 16 = 14 → post 1 (1, 0, e, dn, h, wr, la, md', lv', a1, a2, a3, a4, a5', a6', a7', a8', a9', a10', a11', a12', a13', a14')) : wpX_traceHere post (1, 0, e, dn, h, wr, la, md, lv, a1, a2, a3, a4, a5, a6, a7, a8, a9, a10, a11, a12, a13, a14) := by
  obtain ⟨k0, k1, k11, k12, k15, k8, k13⟩ := hK
  unfold wpX_traceHere
  dsimp only
  refine nm_r (e' := 1) (by decide) (nm_r (e' := 1) (by decide) ⟨vp_in_iff.mpr (by decide), ?_⟩)
  by_cases g : a5 1 = 1
  · exact br_t g (H _ _ _ _ _ _ _ _ _ _ _ _ ⟨k0, k1, k11, k12, k15, k8, k13⟩ (k1 g))
  · have t : (3 : Int32) = 3 ∧ (1 : Int32) = 1 ∧ (1 : Int32) = 1 ∧ (11 : Int32) = 11 ∧ (0 : Int32) = 0 ∧ (1 : Int32) = 1 ∧ (14 : Int32) = 14 := by decide
    refine br_f g (bf_fo1 hG (fun b6 => H _ _ _ _ _ _ _ _ _ _ _ _ ⟨k0, fun _ => t, k11, k12, k15, k8, k13⟩ t))
theorem bf_th11 {post : Int32 → St2 → Prop} {p : Int32} (hG : bf_G p a1) (hK : bf_K a5 a7 a8 a9 a10 a11 a12 a13 a14) (H : ∀ (md' lv' : Int32) (a5' a6' a7' a8' a9' a10' a11' a12' a13' a14' : Nat → Int32), bf_K a5' a7' a8' a9' a10' a11' a12' a13' a14' → a7' 11 = 0 → post 11 (11, 0, e, dn, h, wr, la, md', lv', a1, a2, a3, a4, a5', a6', a7', a8', a9', a10', a11', a12', a13', a14')) : wpX_traceHere post (11, 0, e, dn, h, wr, la, md, lv, a1, a2, a3, a4, a5, a6, a7, a8, a9, a10, a11, a12, a13, a14) := by
  obtain ⟨k0, k1, k11, k12, k15, k8, k13⟩ := hK
  unfold wpX_traceHere
  dsimp only
  refine nm_r (e' := 11) (by decide) (nm_r (e' := 11) (by decide) ⟨vp_in_iff.mpr (by decide), ?_⟩)
  by_cases g : a5 11 = 11
  · exact br_t g (H _ _ _ _ _ _ _ _ _ _ _ _ ⟨k0, k1, k11, k12, k15, k8, k13⟩ (k11 g))
  · refine br_f g (bf_fo11 hG (fun b6 => H _ _ _ _ _ _ _ _ _ _ _ _ ⟨k0, k1, fun _ => rfl, k12, k15, k8, k13⟩ rfl))
theorem bf_th12 {post : Int32 → St2 → Prop} {p : Int32} (hG : bf_G p a1) (hK : bf_K a5 a7 a8 a9 a10 a11 a12 a13 a14) (H : ∀ (md' lv' : Int32) (a5' a6' a7' a8' a9' a10' a11' a12' a13' a14' : Nat → Int32), bf_K a5' a7' a8' a9' a10' a11' a12' a13' a14' → a7' 12 = 3 ∧ a8' 12 = 1 ∧ a9' 12 = 1 ∧ a10' 12 = 15 ∧ a11' 12 = 0 ∧ a12' 12 = 3 ∧ a13' 192 = 40 ∧ a14' 192 = 1 ∧ a13' 193 = 11 ∧ a13' 194 = 14 → post 12 (12, 0, e, dn, h, wr, la, md', lv', a1, a2, a3, a4, a5', a6', a7', a8', a9', a10', a11', a12', a13', a14')) : wpX_traceHere post (12, 0, e, dn, h, wr, la, md, lv, a1, a2, a3, a4, a5, a6, a7, a8, a9, a10, a11, a12, a13, a14) := by
  obtain ⟨k0, k1, k11, k12, k15, k8, k13⟩ := hK
  unfold wpX_traceHere
  dsimp only
  refine nm_r (e' := 12) (by decide) (nm_r (e' := 12) (by decide) ⟨vp_in_iff.mpr (by decide), ?_⟩)
  by_cases g : a5 12 = 12
  · exact br_t g (H _ _ _ _ _ _ _ _ _ _ _ _ ⟨k0, k1, k11, k12, k15, k8, k13⟩ (k12 g))
  · have t : (3 : Int32) = 3 ∧ (1 : Int32) = 1 ∧ (1 : Int32) = 1 ∧ (15 : Int32) = 15 ∧ (0 : Int32) = 0 ∧ (3 : Int32) = 3 ∧ (40 : Int32) = 40 ∧ (1 : Int32) = 1 ∧ (11 : Int32) = 11 ∧ (14 : Int32) = 14 := by decide
    refine br_f g (bf_fo12 hG (fun b6 => H _ _ _ _ _ _ _ _ _ _ _ _ ⟨k0, k1, k11, fun _ => t, k15, k8, k13⟩ t))
theorem bf_th15 {post : Int32 → St2 → Prop} {p : Int32} (hG : bf_G p a1) (hK : bf_K a5 a7 a8 a9 a10 a11 a12 a13 a14) (H : ∀ (md' lv' : Int32) (a5' a6' a7' a8' a9' a10' a11' a12' a13' a14' : Nat → Int32), bf_K a5' a7' a8' a9' a10' a11' a12' a13' a14' → a7' 15 = 0 → post 15 (15, 0, e, dn, h, wr, la, md', lv', a1, a2, a3, a4, a5', a6', a7', a8', a9', a10', a11', a12', a13', a14')) : wpX_traceHere post (15, 0, e, dn, h, wr, la, md, lv, a1, a2, a3, a4, a5, a6, a7, a8, a9, a10, a11, a12, a13, a14) := by
  obtain ⟨k0, k1, k11, k12, k15, k8, k13⟩ := hK
  unfold wpX_traceHere
  dsimp only
  refine nm_r (e' := 15) (by decide) (nm_r (e' := 15) (by decide) ⟨vp_in_iff.mpr (by decide), ?_⟩)
  by_cases g : a5 15 = 15
  · exact br_t g (H _ _ _ _ _ _ _ _ _ _ _ _ ⟨k0, k1, k11, k12, k15, k8, k13⟩ (k15 g))
  · refine br_f g (bf_fo15 hG (fun b6 => H _ _ _ _ _ _ _ _ _ _ _ _ ⟨k0, k1, k11, k12, fun _ => rfl, k8, k13⟩ rfl))
theorem bf_th8 {post : Int32 → St2 → Prop} {p : Int32} (hp : bf_pl p) (hG : bf_G p a1) (hK : bf_K a5 a7 a8 a9 a10 a11 a12 a13 a14) (H : ∀ (md' lv' : Int32) (a5' a6' a7' a8' a9' a10' a11' a12' a13' a14' : Nat → Int32), bf_K a5' a7' a8' a9' a10' a11' a12' a13' a14' → a7' 8 = 9 ∧ a8' 8 = 1 ∧ a9' 8 = 1 ∧ a10' 8 = 11 ∧ a11' 8 = 0 ∧ a12' 8 = 1 ∧ a13' 128 = 14 → post 8 (7, 3, e, dn, h, wr, la, md', lv', a1, a2, a3, a4, a5', a6', a7', a8', a9', a10', a11', a12', a13', a14')) : wpX_traceHere post (7, 3, e, dn, h, wr, la, md, lv, a1, a2, a3, a4, a5, a6, a7, a8, a9, a10, a11, a12, a13, a14) := by
  obtain ⟨k0, k1, k11, k12, k15, k8, k13⟩ := hK
  unfold wpX_traceHere
  dsimp only
  refine nm_r (e' := 103) (by decide) (nm_r (e' := 8) (by decide) ⟨vp_in_iff.mpr (by decide), ?_⟩)
  by_cases g : a5 8 = 103
  · exact br_t g (H _ _ _ _ _ _ _ _ _ _ _ _ ⟨k0, k1, k11, k12, k15, k8, k13⟩ (k8 g))
  · have t : (9 : Int32) = 9 ∧ (1 : Int32) = 1 ∧ (1 : Int32) = 1 ∧ (11 : Int32) = 11 ∧ (0 : Int32) = 0 ∧ (1 : Int32) = 1 ∧ (14 : Int32) = 14 := by decide
    refine br_f g (bf_fo8 hp hG (fun b6 => H _ _ _ _ _ _ _ _ _ _ _ _ ⟨k0, k1, k11, k12, k15, fun _ => t, k13⟩ t))
theorem bf_th13 {post : Int32 → St2 → Prop} {p : Int32} (hG : bf_G p a1) (hK : bf_K a5 a7 a8 a9 a10 a11 a12 a13 a14) (H : ∀ (md' lv' : Int32) (a5' a6' a7' a8' a9' a10' a11' a12' a13' a14' : Nat → Int32), bf_K a5' a7' a8' a9' a10' a11' a12' a13' a14' → a7' 13 = 0 → post 13 (23, 2, e, dn, h, wr, la, md', lv', a1, a2, a3, a4, a5', a6', a7', a8', a9', a10', a11', a12', a13', a14')) : wpX_traceHere post (23, 2, e, dn, h, wr, la, md, lv, a1, a2, a3, a4, a5, a6, a7, a8, a9, a10, a11, a12, a13, a14) := by
  obtain ⟨k0, k1, k11, k12, k15, k8, k13⟩ := hK
  unfold wpX_traceHere
  dsimp only
  refine nm_r (e' := 87) (by decide) (nm_r (e' := 13) (by decide) ⟨vp_in_iff.mpr (by decide), ?_⟩)
  by_cases g : a5 13 = 87
  · exact br_t g (H _ _ _ _ _ _ _ _ _ _ _ _ ⟨k0, k1, k11, k12, k15, k8, k13⟩ (k13 g))
  · refine br_f g (bf_fo13 hG (fun b6 => H _ _ _ _ _ _ _ _ _ _ _ _ ⟨k0, k1, k11, k12, k15, k8, fun _ => rfl⟩ rfl))
end
end
section
/-! the run: one lemma an iteration, then the loop -/
section
variable {c w e dn h wr la md lv : Int32} {a1 a2 a3 a4 a5 a6 a7 a8 a9 a10 a11 a12 a13 a14 : Nat → Int32}
/-- the run is over -/
theorem bf_iX {post : Int32 → St2 → Prop} {n : Nat} {x1 : Int32} (he : ¬ e = 0) (H : post e (c, w, e, dn, h, wr, e, md, lv, a1, a2, a3, a4, a5, a6, a7, a8, a9, a10, a11, a12, a13, a14)) : wX_run_32 post (n + 1) x1 c w e dn h wr la md lv a1 a2 a3 a4 a5 a6 a7 a8 a9 a10 a11 a12 a13 a14 :=
  br_c (fun _ => H) (fun _ => br_f he H)
theorem bf_i28 {post : Int32 → St2 → Prop} {p : Int32} {n : Nat} {x1 : Int32} (y1 dn' : Int32) (hG : bf_G p a1) (hK : bf_K a5 a7 a8 a9 a10 a11 a12 a13 a14) (h1 : ¬ 400 < x1) (hy : x1 + 1 = y1) (hd : ¬ dn = 400) (hd' : dn + 1 = dn')
    (H : ∀ (md' lv' : Int32) (a5' a6' a7' a8' a9' a10' a11' a12' a13' a14' : Nat → Int32), bf_K a5' a7' a8' a9' a10' a11' a12' a13' a14' → wX_run_32 post n y1 1 0 0 dn' 1 wr la md' lv' a1 a2 (upd a3 0 (a2 0)) a4 a5' a6' a7' a8' a9' a10' a11' a12' a13' a14') : wX_run_32 post (n + 1) x1 0 0 0 dn 0 wr la md lv a1 a2 a3 a4 a5 a6 a7 a8 a9 a10 a11 a12 a13 a14 := by
  refine br_f h1 (br_t rfl (br_f hd ?_))
  refine bf_th0 hG hK (fun md' lv' a5' a6' a7' a8' a9' a10' a11' a12' a13' a14' hK' hT => ?_)
  refine bf_rnH 0 (by rw [hT]; decide) ?_
  refine br_t rfl ?_
  refine bf_st28 dn' hG.1 hd' ?_
  exact nm_r hy (H _ _ _ _ _ _ _ _ _ _ _ _ hK')
theorem bf_i1 {post : Int32 → St2 → Prop} {p : Int32} {n : Nat} {x1 : Int32} (y1 dn' : Int32) (hG : bf_G p a1) (hK : bf_K a5 a7 a8 a9 a10 a11 a12 a13 a14) (h1 : ¬ 400 < x1) (hy : x1 + 1 = y1) (hd : ¬ dn = 400) (hd' : dn + 3 = dn') (hle : ¬ 400 < dn')
    (H : ∀ (md' lv' : Int32) (a5' a6' a7' a8' a9' a10' a11' a12' a13' a14' : Nat → Int32), bf_K a5' a7' a8' a9' a10' a11' a12' a13' a14' → wX_run_32 post n y1 11 0 0 dn' 2 wr la md' lv' a1 a2 (upd (upd a3 0 (a3 0)) 1 (a3 0)) a4 a5' a6' a7' a8' a9' a10' a11' a12' a13' a14') : wX_run_32 post (n + 1) x1 1 0 0 dn 1 wr la md lv a1 a2 a3 a4 a5 a6 a7 a8 a9 a10 a11 a12 a13 a14 := by
  refine br_f h1 (br_t rfl (br_f hd ?_))
  refine bf_th1 hG hK (fun md' lv' a5' a6' a7' a8' a9' a10' a11' a12' a13' a14' hK' hT => ?_)
  obtain ⟨t7, t8, t9, t10, t11, t12, t13⟩ := hT
  refine bf_rn1 1 3 dn' t7 t8 t9 hd' hle ?_
  refine br_f (by decide) ?_
  refine bf_rt14 1 16 3 11 0 dn' t7 t10 t11 t12 t13 hd' ?_
  exact nm_r hy (H _ _ _ _ _ _ _ _ _ _ _ _ hK')
theorem bf_i25f {post : Int32 → St2 → Prop} {p : Int32} {n : Nat} {x1 : Int32} (y1 dn' : Int32) (hG : bf_G p a1) (hK : bf_K a5 a7 a8 a9 a10 a11 a12 a13 a14) (h1 : ¬ 400 < x1) (hy : x1 + 1 = y1) (hd : ¬ dn = 400) (hd' : dn + 1 = dn')
    (H : ∀ (md' lv' : Int32) (a5' a6' a7' a8' a9' a10' a11' a12' a13' a14' : Nat → Int32), bf_K a5' a7' a8' a9' a10' a11' a12' a13' a14' → wX_run_32 post n y1 11 0 4 dn' 1 16 la md' lv' a1 a2 a3 a4 a5' a6' a7' a8' a9' a10' a11' a12' a13' a14') : wX_run_32 post (n + 1) x1 11 0 0 dn 2 16 la md lv a1 a2 a3 a4 a5 a6 a7 a8 a9 a10 a11 a12 a13 a14 := by
  refine br_f h1 (br_t rfl (br_f hd ?_))
  refine bf_th11 hG hK (fun md' lv' a5' a6' a7' a8' a9' a10' a11' a12' a13' a14' hK' hT => ?_)
  refine bf_rn0 11 hT ?_
  refine br_t rfl ?_
  refine bf_st25f dn' hG.2.2.2.2.2.2.2.2.2.2.1 hd' ?_
  exact nm_r hy (H _ _ _ _ _ _ _ _ _ _ _ _ hK')
theorem bf_i25 {post : Int32 → St2 → Prop} {p : Int32} {n : Nat} {x1 : Int32} (y1 dn' wr' : Int32) (j : Nat) (hj : j < 16) (hw : wr = nI j) (hw' : wr + 1 = wr') (hG : bf_G p a1) (hK : bf_K a5 a7 a8 a9 a10 a11 a12 a13 a14) (h1 : ¬ 400 < x1) (hy : x1 + 1 = y1) (hd : ¬ dn = 400) (hd' : dn + 1 = dn')
    (H : ∀ (md' lv' : Int32) (a5' a6' a7' a8' a9' a10' a11' a12' a13' a14' : Nat → Int32), bf_K a5' a7' a8' a9' a10' a11' a12' a13' a14' → wX_run_32 post n y1 12 0 0 dn' 1 wr' la md' lv' a1 a2 a3 (upd a4 j (a3 1)) a5' a6' a7' a8' a9' a10' a11' a12' a13' a14') : wX_run_32 post (n + 1) x1 11 0 0 dn 2 wr la md lv a1 a2 a3 a4 a5 a6 a7 a8 a9 a10 a11 a12 a13 a14 := by
  refine br_f h1 (br_t rfl (br_f hd ?_))
  refine bf_th11 hG hK (fun md' lv' a5' a6' a7' a8' a9' a10' a11' a12' a13' a14' hK' hT => ?_)
  refine bf_rn0 11 hT ?_
  refine br_t rfl ?_
  refine bf_st25 dn' wr' j hj hw hw' hG.2.2.2.2.2.2.2.2.2.2.1 hd' ?_
  exact nm_r hy (H _ _ _ _ _ _ _ _ _ _ _ _ hK')
theorem bf_i12 {post : Int32 → St2 → Prop} {p : Int32} {n : Nat} {x1 : Int32} (y1 dn' : Int32) (hG : bf_G p a1) (hK : bf_K a5 a7 a8 a9 a10 a11 a12 a13 a14) (h1 : ¬ 400 < x1) (hy : x1 + 1 = y1) (hd : ¬ dn = 400) (hd' : dn + 3 = dn') (hle : ¬ 400 < dn')
    (b3 : Nat → Int32) (hb : upd (upd (upd (upd a3 1 1) 0 (a3 0 - 1)) 0 (a3 0 - 1)) 1 (a3 0 - 1) = b3)
    (H : ∀ (md' lv' : Int32) (a5' a6' a7' a8' a9' a10' a11' a12' a13' a14' : Nat → Int32), bf_K a5' a7' a8' a9' a10' a11' a12' a13' a14' → wX_run_32 post n y1 15 0 0 dn' 2 wr la md' lv' a1 a2 b3 a4 a5' a6' a7' a8' a9' a10' a11' a12' a13' a14') : wX_run_32 post (n + 1) x1 12 0 0 dn 1 wr la md lv a1 a2 a3 a4 a5 a6 a7 a8 a9 a10 a11 a12 a13 a14 := by
  refine br_f h1 (br_t rfl (br_f hd ?_))
  refine bf_th12 hG hK (fun md' lv' a5' a6' a7' a8' a9' a10' a11' a12' a13' a14' hK' hT => ?_)
  obtain ⟨t7, t8, t9, t10, t11, t12, o0, v0, o1, o2⟩ := hT
  refine bf_rn1 12 3 dn' t7 t8 t9 hd' hle ?_
  refine br_f (by decide) ?_
  refine bf_rt12 dn' t7 t10 t11 t12 o0 v0 o1 o2 hd' b3 hb ?_
  exact nm_r hy (H _ _ _ _ _ _ _ _ _ _ _ _ hK')
theorem bf_i23z {post : Int32 → St2 → Prop} {p : Int32} {n : Nat} {x1 : Int32} (y1 dn' : Int32) (hz : a3 1 = 0) (hG : bf_G p a1) (hK : bf_K a5 a7 a8 a9 a10 a11 a12 a13 a14) (h1 : ¬ 400 < x1) (hy : x1 + 1 = y1) (hd : ¬ dn = 400) (hd' : dn + 1 = dn')
    (H : ∀ (md' lv' : Int32) (a5' a6' a7' a8' a9' a10' a11' a12' a13' a14' : Nat → Int32), bf_K a5' a7' a8' a9' a10' a11' a12' a13' a14' → wX_run_32 post n y1 23 2 0 dn' 1 wr la md' lv' a1 a2 a3 a4 a5' a6' a7' a8' a9' a10' a11' a12' a13' a14') : wX_run_32 post (n + 1) x1 15 0 0 dn 2 wr la md lv a1 a2 a3 a4 a5 a6 a7 a8 a9 a10 a11 a12 a13 a14 := by
  refine br_f h1 (br_t rfl (br_f hd ?_))
  refine bf_th15 hG hK (fun md' lv' a5' a6' a7' a8' a9' a10' a11' a12' a13' a14' hK' hT => ?_)
  refine bf_rn0 15 hT ?_
  refine br_t rfl ?_
  refine bf_st23z dn' hz hG.2.2.2.2.2.2.2.2.2.2.2.2.2.2.1 hd' ?_
  exact nm_r hy (H _ _ _ _ _ _ _ _ _ _ _ _ hK')
theorem bf_i23n {post : Int32 → St2 → Prop} {p : Int32} {n : Nat} {x1 : Int32} (y1 dn' : Int32) (hz : ¬ a3 1 = 0) (hG : bf_G p a1) (hK : bf_K a5 a7 a8 a9 a10 a11 a12 a13 a14) (h1 : ¬ 400 < x1) (hy : x1 + 1 = y1) (hd : ¬ dn = 400) (hd' : dn + 1 = dn')
    (H : ∀ (md' lv' : Int32) (a5' a6' a7' a8' a9' a10' a11' a12' a13' a14' : Nat → Int32), bf_K a5' a7' a8' a9' a10' a11' a12' a13' a14' → wX_run_32 post n y1 7 3 0 dn' 1 wr la md' lv' a1 a2 a3 a4 a5' a6' a7' a8' a9' a10' a11' a12' a13' a14') : wX_run_32 post (n + 1) x1 15 0 0 dn 2 wr la md lv a1 a2 a3 a4 a5 a6 a7 a8 a9 a10 a11 a12 a13 a14 := by
  refine br_f h1 (br_t rfl (br_f hd ?_))
  refine bf_th15 hG hK (fun md' lv' a5' a6' a7' a8' a9' a10' a11' a12' a13' a14' hK' hT => ?_)
  refine bf_rn0 15 hT ?_
  refine br_t rfl ?_
  refine bf_st23n dn' hz hG.2.2.2.2.2.2.2.2.2.2.2.2.2.2.1 hd' ?_
  exact nm_r hy (H _ _ _ _ _ _ _ _ _ _ _ _ hK')
theorem bf_i29 {post : Int32 → St2 → Prop} {p : Int32} {n : Nat} {x1 : Int32} (y1 dn' : Int32) (hG : bf_G p a1) (hK : bf_K a5 a7 a8 a9 a10 a11 a12 a13 a14) (h1 : ¬ 400 < x1) (hy : x1 + 1 = y1) (hd : ¬ dn = 400) (hd' : dn + 1 = dn')
    (H : ∀ (md' lv' : Int32) (a5' a6' a7' a8' a9' a10' a11' a12' a13' a14' : Nat → Int32), bf_K a5' a7' a8' a9' a10' a11' a12' a13' a14' → wX_run_32 post n y1 23 2 1 dn' h wr la md' lv' a1 a2 a3 a4 a5' a6' a7' a8' a9' a10' a11' a12' a13' a14') : wX_run_32 post (n + 1) x1 23 2 0 dn h wr la md lv a1 a2 a3 a4 a5 a6 a7 a8 a9 a10 a11 a12 a13 a14 := by
  refine br_f h1 (br_t rfl (br_f hd ?_))
  refine bf_th13 hG hK (fun md' lv' a5' a6' a7' a8' a9' a10' a11' a12' a13' a14' hK' hT => ?_)
  refine bf_rn0 13 hT ?_
  refine br_t rfl ?_
  refine bf_st29 dn' hG.2.2.2.2.2.2.2.2.2.2.2.2.2.2.2 hd' ?_
  exact nm_r hy (H _ _ _ _ _ _ _ _ _ _ _ _ hK')
theorem bf_i8 {post : Int32 → St2 → Prop} {p : Int32} {n : Nat} {x1 : Int32} (y1 dn' : Int32) (hp : bf_pl p) (hG : bf_G p a1) (hK : bf_K a5 a7 a8 a9 a10 a11 a12 a13 a14) (h1 : ¬ 400 < x1) (hy : x1 + 1 = y1) (hd : ¬ dn = 400) (hd' : dn + 9 = dn') (hle : ¬ 400 < dn')
    (H : ∀ (md' lv' : Int32) (a5' a6' a7' a8' a9' a10' a11' a12' a13' a14' : Nat → Int32), bf_K a5' a7' a8' a9' a10' a11' a12' a13' a14' → wX_run_32 post n y1 11 0 0 dn' 2 wr la md' lv' a1 a2 (upd (upd a3 0 (a3 0)) 1 (a3 0)) a4 a5' a6' a7' a8' a9' a10' a11' a12' a13' a14') : wX_run_32 post (n + 1) x1 7 3 0 dn 1 wr la md lv a1 a2 a3 a4 a5 a6 a7 a8 a9 a10 a11 a12 a13 a14 := by
  refine br_f h1 (br_t rfl (br_f hd ?_))
  refine bf_th8 hp hG hK (fun md' lv' a5' a6' a7' a8' a9' a10' a11' a12' a13' a14' hK' hT => ?_)
  obtain ⟨t7, t8, t9, t10, t11, t12, t13⟩ := hT
  refine bf_rn1 8 9 dn' t7 t8 t9 hd' hle ?_
  refine br_f (by decide) ?_
  refine bf_rt14 8 128 9 11 0 dn' t7 t10 t11 t12 t13 hd' ?_
  exact nm_r hy (H _ _ _ _ _ _ _ _ _ _ _ _ hK')
end
end
section
/-! the run as a whole: what it shows and how it ends -/
theorem bf_n400 {a : Nat} (h : a < 400) : ¬ nI a = 400 := fun z => absurd ((nI_eq (a := a) (b := 400) (by omega) (by omega)).mp z) (by omega)
theorem bf_l400 {a : Nat} (h : a ≤ 400) : ¬ 400 < nI a := nI_nlt (a := 400) (b := a) h (by omega)
theorem bf_p3 (a : Nat) : nI a + 3 = nI (a + 3) := nI_add a 3
theorem bf_p9 (a : Nat) : nI a + 9 = nI (a + 9) := nI_add a 9
theorem bf_dec (v : Int32) (j : Nat) : v - nI j - 1 = v - nI (j + 1) := by
  rw [nI_succ]
  grind
theorem bf_eq0 {v x : Int32} (h : v - x = 0) : v = x := by grind
/-- the first m outputs -/
def bf_out (v : Int32) (m : Nat) (b : Nat → Int32) : Prop := ∀ i, i < m → b i = v - nI i
theorem bf_outS {v x : Int32} {j : Nat} {b : Nat → Int32} (h : bf_out v j b) (hx : x = v - nI j) : bf_out v (j + 1) (upd b j x) := by
  intro i hi
  by_cases g : i = j
  · rw [g, pk_us, hx]
  · rw [pk_un g]
    exact h i (by omega)
section
variable {c w e dn h wr la md lv : Int32} {a1 a2 a3 a4 a5 a6 a7 a8 a9 a10 a11 a12 a13 a14 : Nat → Int32}
theorem bf_runL {post : Int32 → St2 → Prop} {p v : Int32} (hp : bf_pl p) (hG : bf_G p a1)
    (H1 : ∀ (m : Nat) (b3 b4 : Nat → Int32) (md' lv' : Int32) (a5' a6' a7' a8' a9' a10' a11' a12' a13' a14' : Nat → Int32), 1 ≤ m → m ≤ 16 → v = nI m → bf_K a5' a7' a8' a9' a10' a11' a12' a13' a14' → b3 0 = 0 → bf_out v m b4 → post 1 (23, 2, 1, nI (14 * m - 4), 1, nI m, 1, md', lv', a1, a2, b3, b4, a5', a6', a7', a8', a9', a10', a11', a12', a13', a14'))
    (H4 : ∀ (b3 b4 : Nat → Int32) (md' lv' : Int32) (a5' a6' a7' a8' a9' a10' a11' a12' a13' a14' : Nat → Int32), (∀ m : Nat, 1 ≤ m → m ≤ 16 → ¬ v = nI m) → bf_K a5' a7' a8' a9' a10' a11' a12' a13' a14' → b3 0 = v - 16 → bf_out v 16 b4 → post 4 (11, 0, 4, 229, 1, 16, 4, md', lv', a1, a2, b3, b4, a5', a6', a7', a8', a9', a10', a11', a12', a13', a14'))
    (k : Nat) : ∀ (j f : Nat) (b3 b4 : Nat → Int32) (md' lv' : Int32) (a5' a6' a7' a8' a9' a10' a11' a12' a13' a14' : Nat → Int32), j + k = 16 → (∀ m : Nat, 1 ≤ m → m ≤ j → ¬ v = nI m) → bf_K a5' a7' a8' a9' a10' a11' a12' a13' a14' → b3 0 = v - nI j → b3 1 = v - nI j → bf_out v j b4 →
      wX_run_32 post (f + 4 * k + 5) (nI (4 * j + 2)) 11 0 0 (nI (14 * j + 4)) 2 (nI j) la md' lv' a1 a2 b3 b4 a5' a6' a7' a8' a9' a10' a11' a12' a13' a14' := by
  induction k with
  | zero =>
    intro j f b3 b4 md' lv' a5' a6' a7' a8' a9' a10' a11' a12' a13' a14' hj hno hK h0 h1 ho
    have ej : j = 16 := by omega
    subst ej
    refine bf_i25f (nI 67) (nI 229) hG hK (bf_l400 (by omega)) (nI_1 66) (bf_n400 (by omega)) (nI_1 228) (fun md'' lv'' a5'' a6'' a7'' a8'' a9'' a10'' a11'' a12'' a13'' a14'' hK' => ?_)
    refine bf_iX (by decide) ?_
    exact H4 b3 b4 _ _ _ _ _ _ _ _ _ _ _ _ hno hK' h0 ho
  | succ k ih =>
    intro j f b3 b4 md' lv' a5' a6' a7' a8' a9' a10' a11' a12' a13' a14' hj hno hK h0 h1 ho
    rw [show f + 4 * (k + 1) + 5 = (f + 4 * k + 5) + 1 + 1 + 1 + 1 by omega]
    have hj16 : j < 16 := by omega
    refine bf_i25 (nI (4 * j + 3)) (nI (14 * j + 5)) (nI (j + 1)) j hj16 rfl (nI_1 j) hG hK (bf_l400 (by omega)) (nI_1 _) (bf_n400 (by omega)) (nI_1 _) (fun md2 lv2 b5 b6 b7 b8 b9 b10 b11 b12 b13 b14 hK2 => ?_)
    refine bf_i12 (nI (4 * j + 4)) (nI (14 * j + 8)) hG hK2 (bf_l400 (by omega)) (nI_1 _) (bf_n400 (by omega)) (bf_p3 _) (bf_l400 (by omega)) _ rfl (fun md3 lv3 c5 c6 c7 c8 c9 c10 c11 c12 c13 c14 hK3 => ?_)
    have ho' : bf_out v (j + 1) (upd b4 j (b3 1)) := bf_outS ho h1
    generalize hB : upd (upd (upd (upd b3 1 1) 0 (b3 0 - 1)) 0 (b3 0 - 1)) 1 (b3 0 - 1) = B
    have eb : b3 0 - 1 = v - nI (j + 1) := by rw [h0]; exact bf_dec v j
    have B0 : B 0 = v - nI (j + 1) := by rw [← hB, pk_un (by decide), pk_us]; exact eb
    have B1 : B 1 = v - nI (j + 1) := by rw [← hB, pk_us]; exact eb
    by_cases hz : B 1 = 0
    · have ev : v = nI (j + 1) := bf_eq0 (by rw [← B1]; exact hz)
      refine bf_i23z (nI (4 * j + 5)) (nI (14 * j + 9)) hz hG hK3 (bf_l400 (by omega)) (nI_1 _) (bf_n400 (by omega)) (nI_1 _) (fun md4 lv4 d5 d6 d7 d8 d9 d10 d11 d12 d13 d14 hK4 => ?_)
      refine bf_i29 (nI (4 * j + 6)) (nI (14 * j + 10)) hG hK4 (bf_l400 (by omega)) (nI_1 _) (bf_n400 (by omega)) (nI_1 _) (fun md5 lv5 e5 e6 e7 e8 e9 e10 e11 e12 e13 e14 hK5 => ?_)
      refine bf_iX (by decide) ?_
      have t := H1 (j + 1) B (upd b4 j (b3 1)) md5 lv5 e5 e6 e7 e8 e9 e10 e11 e12 e13 e14 (by omega) (by omega) ev hK5 (by rw [B0, ← B1]; exact hz) ho'
      rw [show 14 * (j + 1) - 4 = 14 * j + 10 by omega] at t
      exact t
    · refine bf_i23n (nI (4 * j + 5)) (nI (14 * j + 9)) hz hG hK3 (bf_l400 (by omega)) (nI_1 _) (bf_n400 (by omega)) (nI_1 _) (fun md4 lv4 d5 d6 d7 d8 d9 d10 d11 d12 d13 d14 hK4 => ?_)
      refine bf_i8 (nI (4 * j + 6)) (nI (14 * j + 18)) hp hG hK4 (bf_l400 (by omega)) (nI_1 _) (bf_n400 (by omega)) (bf_p9 _) (bf_l400 (by omega)) (fun md5 lv5 e5 e6 e7 e8 e9 e10 e11 e12 e13 e14 hK5 => ?_)
      have t := ih (j + 1) f (upd (upd B 0 (B 0)) 1 (B 0)) (upd b4 j (b3 1)) md5 lv5 e5 e6 e7 e8 e9 e10 e11 e12 e13 e14 (by omega) (fun m hm1 hm2 => ?_) hK5 (by rw [pk_un (by decide), pk_us]; exact B0) (by rw [pk_us]; exact B0) ho'
      · rw [show 4 * (j + 1) + 2 = 4 * j + 6 by omega, show 14 * (j + 1) + 4 = 14 * j + 18 by omega] at t
        exact t
      · by_cases g : m = j + 1
        · intro z
          rw [g] at z
          exact hz (by rw [B1, z]; grind)
        · exact hno m hm1 (by omega)
theorem bf_run {post : Int32 → St2 → Prop} {p v : Int32} (hp : bf_pl p) (hG : bf_G p a1) (hK : bf_K a5 a7 a8 a9 a10 a11 a12 a13 a14) (hv : a2 0 = v)
    (H1 : ∀ (m : Nat) (b3 b4 : Nat → Int32) (md' lv' : Int32) (a5' a6' a7' a8' a9' a10' a11' a12' a13' a14' : Nat → Int32), 1 ≤ m → m ≤ 16 → v = nI m → bf_K a5' a7' a8' a9' a10' a11' a12' a13' a14' → b3 0 = 0 → bf_out v m b4 → post 1 (23, 2, 1, nI (14 * m - 4), 1, nI m, 1, md', lv', a1, a2, b3, b4, a5', a6', a7', a8', a9', a10', a11', a12', a13', a14'))
    (H4 : ∀ (b3 b4 : Nat → Int32) (md' lv' : Int32) (a5' a6' a7' a8' a9' a10' a11' a12' a13' a14' : Nat → Int32), (∀ m : Nat, 1 ≤ m → m ≤ 16 → ¬ v = nI m) → bf_K a5' a7' a8' a9' a10' a11' a12' a13' a14' → b3 0 = v - 16 → bf_out v 16 b4 → post 4 (11, 0, 4, 229, 1, 16, 4, md', lv', a1, a2, b3, b4, a5', a6', a7', a8', a9', a10', a11', a12', a13', a14')) :
    wpX_run post (c, w, e, dn, h, wr, la, md, lv, a1, a2, a3, a4, a5, a6, a7, a8, a9, a10, a11, a12, a13, a14) := by
  unfold wpX_run
  dsimp only
  refine ⟨(0 + 4 * 16 + 5) + 1 + 1, ?_⟩
  refine bf_i28 1 1 hG hK (by decide) (by decide) (by decide) (by decide) (fun md2 lv2 b5 b6 b7 b8 b9 b10 b11 b12 b13 b14 hK2 => ?_)
  refine bf_i1 2 4 hG hK2 (by decide) (by decide) (by decide) (by decide) (by decide) (fun md3 lv3 c5 c6 c7 c8 c9 c10 c11 c12 c13 c14 hK3 => ?_)
  have e0 : v - nI 0 = v := by rw [nI_0]; grind
  have t : upd a3 0 (a2 0) 0 = v := by rw [pk_us]; exact hv
  exact bf_runL hp hG H1 H4 16 0 0 _ a4 md3 lv3 c5 c6 c7 c8 c9 c10 c11 c12 c13 c14 rfl (fun m h1 h2 => absurd h1 (by omega)) hK3 (by rw [pk_un (by decide), pk_us, t, e0]) (by rw [pk_us, t, e0]) (fun i hi => absurd hi (by omega))
end
end
section
/-! making the object and laying the grid -/
/-- no trace is stored -/
def bf_F (a5 : Nat → Int32) : Prop := ∀ t, t < 16 → a5 t = -1
/-- the digest -/
def bf_dg (g : Nat → Int32) : Nat → Int32
  | 0 => 0
  | n + 1 => bf_dg g n + ((nI n + 1) * g n)
section
variable {c w e dn h wr la md lv : Int32} {a1 a2 a3 a4 a5 a6 a7 a8 a9 a10 a11 a12 a13 a14 : Nat → Int32}
theorem bf_drop {post : St2 → Prop} (H : ∀ b5, bf_F b5 → post (c, w, e, dn, h, wr, la, md, lv, a1, a2, a3, a4, b5, a6, a7, a8, a9, a10, a11, a12, a13, a14)) : wpX_dropAll post (c, w, e, dn, h, wr, la, md, lv, a1, a2, a3, a4, a5, a6, a7, a8, a9, a10, a11, a12, a13, a14) :=
  pk_loop (fun n i s => wX_dropAll_2 post c w e dn h wr la md lv n (nI i) a1 a2 a3 a4 s a6 a7 a8 a9 a10 a11 a12 a13 a14) (fun i s => ∀ t, t < i → s t = -1) 16 0 a5 (by omega) (fun t ht => absurd ht (by omega))
    (fun n s h => pk_le 16 16 (fun _ => H s h) (fun z => absurd z (by omega)))
    (fun n i s hi h hw => pk_le 16 i (fun z => absurd z (by omega)) (fun _ => ⟨pk_in i 16 hi, nm_e (nm_r (nI_1 i) (hw _ (fun t ht => by
      rw [nI_clamp (by omega)]
      by_cases g : t = i
      · rw [g, pk_us]
      · rw [pk_un g]
        exact h t (by omega))))⟩))
theorem bf_init {post : St2 → Prop} (H : ∀ b5, bf_F b5 → post (0, 0, 0, 0, 0, 0, 0, 0, 0, (fun _ => 0), (fun _ => 0), (fun _ => 0), (fun _ => 0), b5, (fun _ => 0), (fun _ => 0), (fun _ => 0), (fun _ => 0), (fun _ => 0), (fun _ => 0), (fun _ => 0), (fun _ => 0), (fun _ => 0))) :
    wpX_init post 14 702 (0, 0, 0, 0, 0, 0, 0, 0, 0) := by
  unfold wpX_init
  dsimp only
  refine ⟨by decide, by decide, by decide, by decide, by decide, by decide, by decide, by decide, by decide, by decide, by decide, by decide, by decide, by decide, by decide, by decide, by decide, by decide, by decide, by decide, by decide, by decide, by decide, by decide, by decide, by decide, by decide, by decide, ?_⟩
  exact bf_drop (fun b5 hb => H b5 hb)
theorem bf_write {post : St2 → Prop} {x v : Int32} (k : Nat) (y : Int32) (hF : bf_F a5) (H : post (c, w, e, dn, h, wr, la, md, lv, upd a1 k y, a2, a3, a4, a5, a6, a7, a8, a9, a10, a11, a12, a13, a14)) (hv : v = y := by decide) (hk : x.toNatClampNeg = k := by decide) (hin : vp_in x 32 := by exact vp_in_iff.mpr (by decide)) : wpX_write post (c, w, e, dn, h, wr, la, md, lv, a1, a2, a3, a4, a5, a6, a7, a8, a9, a10, a11, a12, a13, a14) x v := by
  subst hk
  subst hv
  unfold wpX_write
  dsimp only
  refine ⟨hin, nm_e ?_⟩
  exact pk_loop (σ := Unit) (fun n i _ => wX_write_9 post x c w e dn h wr la md lv n (nI i) (upd a1 x.toNatClampNeg v) a2 a3 a4 a5 a6 a7 a8 a9 a10 a11 a12 a13 a14) (fun _ _ => True) 16 0 () (by omega) trivial
    (fun n _ _ => pk_le 16 16 (fun _ => H) (fun z => absurd z (by omega)))
    (fun n i _ hi _ hw => pk_le 16 i (fun z => absurd z (by omega)) (fun _ => ⟨pk_in i 16 hi, br_t (by rw [nI_clamp (by omega), hF i hi]; decide) (nm_r (nI_1 i) (hw () trivial))⟩))
theorem bf_put {post : Int32 → St2 → Prop} {x y v : Int32} (k : Nat) (hF : bf_F a5) (h0 : ¬ v < 0) (h31 : v ≤ 31) (H : ∀ r, post r (c, w, e, dn, h, wr, la, md, lv, upd a1 k v, a2, a3, a4, a5, a6, a7, a8, a9, a10, a11, a12, a13, a14))
    (x0 : ¬ x < 0 := by decide) (x7 : ¬ 7 < x := by decide) (y0 : ¬ y < 0 := by decide) (y3 : y ≤ 3 := by decide)
    (hk : (x + (8 * y)).toNatClampNeg = k := by decide) (hin : vp_in (x + (8 * y)) 32 := by exact vp_in_iff.mpr (by decide)) : wpX_put post (c, w, e, dn, h, wr, la, md, lv, a1, a2, a3, a4, a5, a6, a7, a8, a9, a10, a11, a12, a13, a14) x y v := by
  unfold wpX_put
  dsimp only
  refine br_f x0 (br_f x7 (br_f y0 (br_t y3 ?_)))
  refine br_t rfl (br_f h0 (br_t h31 ⟨hin, nm_e ?_⟩))
  exact bf_write k v hF (H _) rfl hk hin
theorem bf_three {post : Int32 → St2 → Prop} {x y z : Int32} (k0 k1 k2 : Nat) (v0 v1 v2 : Int32) (hF : bf_F a5) (H : post 0 (c, w, e, dn, h, wr, la, md, lv, upd (upd (upd a1 k0 v0) k1 v1) k2 v2, a2, a3, a4, a5, a6, a7, a8, a9, a10, a11, a12, a13, a14))
    (x0 : ¬ x < 0 := by decide) (x7 : ¬ 7 < x := by decide) (y0 : ¬ y < 0 := by decide) (y3 : y ≤ 3 := by decide) (z0 : ¬ z < 0 := by decide) (z7 : z ≤ 32767 := by decide)
    (hv0 : (z >>> (((5 : Int32) * 0) &&& 31)) &&& 31 = v0 := by decide) (hv1 : (z >>> (((5 : Int32) * 1) &&& 31)) &&& 31 = v1 := by decide) (hv2 : (z >>> (((5 : Int32) * 2) &&& 31)) &&& 31 = v2 := by decide)
    (hk0 : (((x + 0) &&& 7) + (8 * y)).toNatClampNeg = k0 := by decide) (hk1 : (((x + 1) &&& 7) + (8 * y)).toNatClampNeg = k1 := by decide) (hk2 : (((x + 2) &&& 7) + (8 * y)).toNatClampNeg = k2 := by decide)
    (n0 : vp_in (((x + 0) &&& 7) + (8 * y)) 32 := by exact vp_in_iff.mpr (by decide)) (n1 : vp_in (((x + 1) &&& 7) + (8 * y)) 32 := by exact vp_in_iff.mpr (by decide)) (n2 : vp_in (((x + 2) &&& 7) + (8 * y)) 32 := by exact vp_in_iff.mpr (by decide)) :
    wpX_putThree post (c, w, e, dn, h, wr, la, md, lv, a1, a2, a3, a4, a5, a6, a7, a8, a9, a10, a11, a12, a13, a14) x y z := by
  unfold wpX_putThree
  dsimp only
  refine br_f x0 (br_f x7 (br_f y0 (br_t y3 ?_)))
  refine br_t rfl (br_f z0 (br_t z7 ⟨4, ?_⟩))
  refine br_f (by decide) ?_
  refine bf_write k0 v0 hF ?_ hv0 hk0 n0
  refine nm_r (e' := 1) (by decide) ?_
  refine br_f (by decide) ?_
  refine bf_write k1 v1 hF ?_ hv1 hk1 n1
  refine nm_r (e' := 2) (by decide) ?_
  refine br_f (by decide) ?_
  refine bf_write k2 v2 hF ?_ hv2 hk2 n2
  refine nm_r (e' := 3) (by decide) ?_
  exact br_t (by decide) H
theorem bf_input {post : Int32 → St2 → Prop} {v : Int32} (H : post 0 (c, w, e, dn, h, wr, la, md, lv, a1, upd a2 0 v, a3, a4, a5, a6, a7, a8, a9, a10, a11, a12, a13, a14)) : wpX_input post (c, w, e, dn, h, wr, la, md, lv, a1, a2, a3, a4, a5, a6, a7, a8, a9, a10, a11, a12, a13, a14) 0 v := by
  unfold wpX_input
  dsimp only
  exact br_f (by decide) (br_t (by decide) ⟨vp_in_iff.mpr (by decide), nm_e H⟩)
theorem bf_digest {post : Int32 → Prop} (H : post (bf_dg a1 32)) : wpX_digest post (c, w, e, dn, h, wr, la, md, lv, a1, a2, a3, a4, a5, a6, a7, a8, a9, a10, a11, a12, a13, a14) :=
  pk_loop (σ := Unit) (fun n i _ => wX_digest_4 post c w e dn h wr la md lv a1 a2 a3 a4 a5 a6 a7 a8 a9 a10 a11 a12 a13 a14 n (bf_dg a1 i) (nI i)) (fun _ _ => True) 32 0 () (by omega) trivial
    (fun n _ _ => pk_le 32 32 (fun _ => H) (fun z => absurd z (by omega)))
    (fun n i _ hi _ hw => pk_le 32 i (fun z => absurd z (by omega)) (fun _ => ⟨pk_in i 32 hi, nm_r (show bf_dg a1 i + ((nI i + 1) * a1 (nI i).toNatClampNeg) = bf_dg a1 (i + 1) by rw [nI_clamp (by omega)]; rfl) (nm_r (nI_1 i) (hw () trivial))⟩))
theorem bf_output {post : Int32 → Prop} {x : Int32} {m : Nat} (i : Nat) (hi : i < 16) (hm : m ≤ 16) (hx : x = nI i) (H1 : i < m → post (a4 i)) (H0 : m ≤ i → post 0) : wpX_output post (c, w, e, dn, h, nI m, la, md, lv, a1, a2, a3, a4, a5, a6, a7, a8, a9, a10, a11, a12, a13, a14) x := by
  subst hx
  unfold wpX_output
  dsimp only
  refine br_f (nI_pos (by omega)) (pk_lt i m (fun z => ⟨pk_in i 16 hi, ?_⟩) H0)
  rw [nI_clamp (by omega)]
  exact H1 z
end
end
section
/-! the law's checks -/
section
variable {c w e dn h wr la md lv : Int32} {a1 a2 a3 a4 a5 a6 a7 a8 a9 a10 a11 a12 a13 a14 : Nat → Int32}
variable {mc ms kc ks : Nat}
/-- the second run, and what the law says of it -/
theorem bf_last {v x7 p : Int32} (hp : bf_pl p) (hG : bf_G p a1) (hK : bf_K a5 a7 a8 a9 a10 a11 a12 a13 a14) (n : Nat) : wL_lawOf_294 (fun r _ => r = 1) mc ms v x7 kc ks c w e dn h wr la md lv a1 a2 a3 a4 a5 a6 a7 a8 a9 a10 a11 a12 a13 a14 (n + 1) 1 8 := by
  refine br_t (by decide) ?_
  refine bf_input ?_
  refine bf_run (v := 2) hp hG hK pk_us ?_ ?_
  · intro m b3 b4 md' lv' a5' a6' a7' a8' a9' a10' a11' a12' a13' a14' h1 h16 hv hK' h0 ho
    have em : m = 2 := ((nI_eq (a := 2) (b := m) (by omega) (by omega)).mp hv).symm
    subst em
    refine br_f (by decide) (br_t rfl ?_)
    refine br_t rfl ?_
    refine bf_output 0 (by omega) (by omega) rfl (fun _ => ?_) (fun z => absurd z (by omega))
    refine br_t (by rw [ho 0 (by omega)]; decide) ?_
    refine bf_output 1 (by omega) (by omega) rfl (fun _ => ?_) (fun z => absurd z (by omega))
    refine br_t (by rw [ho 1 (by omega)]; decide) ?_
    exact br_t (by decide) rfl
  · intro b3 b4 md' lv' a5' a6' a7' a8' a9' a10' a11' a12' a13' a14' hno hK' h0 ho
    exact absurd (show (2 : Int32) = nI 2 from rfl) (hno 2 (by omega) (by omega))
/-- the outputs of the first run -/
theorem bf_outs {post : Int32 → St0 → Prop} {v : Int32} {m : Nat} (hm : m ≤ 16) (ho : bf_out v m a4) (H : ∀ n, wL_lawOf_294 post mc ms v (nI m) kc ks c w e dn h (nI m) la md lv a1 a2 a3 a4 a5 a6 a7 a8 a9 a10 a11 a12 a13 a14 (n + 1) 1 8) :
    ∃ n, wL_lawOf_294 post mc ms v (nI m) kc ks c w e dn h (nI m) la md lv a1 a2 a3 a4 a5 a6 a7 a8 a9 a10 a11 a12 a13 a14 n 1 0 :=
  pk_loop (σ := Unit) (fun n i _ => wL_lawOf_294 post mc ms v (nI m) kc ks c w e dn h (nI m) la md lv a1 a2 a3 a4 a5 a6 a7 a8 a9 a10 a11 a12 a13 a14 n 1 (nI i)) (fun _ _ => True) 8 0 () (by omega) trivial (fun n _ _ => H n)
    (fun n i _ hi _ hw => by
      have nx : wL_lawOf_294 post mc ms v (nI m) kc ks c w e dn h (nI m) la md lv a1 a2 a3 a4 a5 a6 a7 a8 a9 a10 a11 a12 a13 a14 n 1 (nI (i + 1)) := hw () trivial
      have e8 : nI i + 8 = nI (i + 8) := nI_add i 8
      have s8 : v - nI (i + 8) = v - nI i - 8 := by rw [← e8]; grind
      have two : wpX_output (fun r_657 => (((nI m ≤ (nI i + 8) → (wL_lawOf_360 post mc ms (wL_lawOf_294 post mc ms v (nI m) kc ks c w e dn h (nI m) la md lv a1 a2 a3 a4 a5 a6 a7 a8 a9 a10 a11 a12 a13 a14 n) v (nI m) (nI i) 0 r_657 kc ks c w e dn h (nI m) la md lv a1 a2 a3 a4 a5 a6 a7 a8 a9 a10 a11 a12 a13 a14)) ∧ (¬ nI m ≤ (nI i + 8) → (wL_lawOf_360 post mc ms (wL_lawOf_294 post mc ms v (nI m) kc ks c w e dn h (nI m) la md lv a1 a2 a3 a4 a5 a6 a7 a8 a9 a10 a11 a12 a13 a14 n) v (nI m) (nI i) ((v - nI i) - 8) r_657 kc ks c w e dn h (nI m) la md lv a1 a2 a3 a4 a5 a6 a7 a8 a9 a10 a11 a12 a13 a14))))) (c, w, e, dn, h, nI m, la, md, lv, a1, a2, a3, a4, a5, a6, a7, a8, a9, a10, a11, a12, a13, a14) (nI i + 8) := by
        refine bf_output (i + 8) (by omega) hm e8 (fun z => ?_) (fun z => ?_)
        · refine br_f (by rw [e8]; exact nI_ge z (by omega)) ?_
          exact br_t (by rw [ho (i + 8) z]; exact s8) (nm_r (nI_1 i) nx)
        · refine br_t (by rw [e8]; exact nI_le z (by omega)) ?_
          exact br_t rfl (nm_r (nI_1 i) nx)
      refine pk_le 8 i (fun z => absurd z (by omega)) (fun _ => br_f (by decide) ?_)
      refine bf_output i (by omega) hm rfl (fun z => ?_) (fun z => ?_)
      · refine br_f (nI_ge z (by omega)) ?_
        exact br_t (ho i z) two
      · refine br_t (nI_le z (by omega)) ?_
        exact br_t rfl two)
/-- few: the script's first int is 1 .. 16 -/
theorem bf_few {p : Int32} {m : Nat} (hp : bf_pl p) (hG : bf_G p a1) (hK : bf_K a5 a7 a8 a9 a10 a11 a12 a13 a14) (h1 : 1 ≤ m) (h16 : m ≤ 16) (h0 : a3 0 = 0) (ho : bf_out (nI m) m a4) :
    wL_lawOf_155 (fun r _ => r = 1) mc ms (nI m) (bf_dg a1 32) 1 1 kc ks 23 2 1 (nI (14 * m - 4)) 1 (nI m) 1 md lv a1 a2 a3 a4 a5 a6 a7 a8 a9 a10 a11 a12 a13 a14 := by
  unfold wL_lawOf_155
  refine br_f (by decide) ?_
  unfold wL_lawOf_168
  refine br_f (by decide) ?_
  unfold wL_lawOf_182
  refine br_t rfl ?_
  refine br_t rfl ?_
  refine br_t rfl ?_
  refine br_t rfl ?_
  refine br_f (by decide) (br_t (by decide) ⟨vp_in_iff.mpr (by decide), ?_⟩)
  refine br_f (by decide) ?_
  unfold wL_lawOf_229
  refine br_t h0 ?_
  refine br_f (by decide) ?_
  unfold wL_lawOf_253
  refine br_t ?_ ?_
  · have e : (14 : Int32) * nI m - 4 = nI (14 * m - 4) := by
      have e1 : (14 : Int32) * nI m = nI (14 * m) := pk_mul 14 m
      rw [e1]
      exact pk_sub (b := 4) (by omega)
    exact e.symm
  refine br_f (by decide) ?_
  unfold wL_lawOf_272
  refine br_t (by decide) ?_
  refine bf_digest ?_
  refine br_t rfl ?_
  exact bf_outs h16 ho (fun n => bf_last hp hG hK n)
/-- not few -/
theorem bf_many {p v : Int32} (hp : bf_pl p) (hG : bf_G p a1) (hK : bf_K a5 a7 a8 a9 a10 a11 a12 a13 a14) (h0 : a3 0 = v - 16) (ho : bf_out v 16 a4) :
    wL_lawOf_155 (fun r _ => r = 1) mc ms v (bf_dg a1 32) 4 0 kc ks 11 0 4 229 1 16 4 md lv a1 a2 a3 a4 a5 a6 a7 a8 a9 a10 a11 a12 a13 a14 := by
  unfold wL_lawOf_155
  refine br_t rfl ?_
  unfold wL_lawOf_168
  refine br_t rfl ?_
  unfold wL_lawOf_182
  refine br_t rfl ?_
  refine br_t rfl ?_
  refine br_t rfl ?_
  refine br_t rfl ?_
  refine br_f (by decide) (br_t (by decide) ⟨vp_in_iff.mpr (by decide), ?_⟩)
  refine br_t rfl ?_
  unfold wL_lawOf_229
  refine br_t h0 ?_
  refine br_t rfl ?_
  unfold wL_lawOf_253
  refine br_t rfl ?_
  refine br_t rfl ?_
  unfold wL_lawOf_272
  refine br_t (by decide) ?_
  refine bf_digest ?_
  refine br_t rfl ?_
  exact bf_outs (m := 16) (by omega) ho (fun n => bf_last hp hG hK n)
/-- the grid is laid, the rest follows -/
theorem bf_after {p v : Int32} (hp : bf_pl p) (hF : bf_F a5) (h2 : a1 2 = p) (h3 : a1 3 = p) (h4 : a1 4 = p) (h5 : a1 5 = p) (h6 : a1 6 = p) (n : Nat) : wL_lawOf_30 (fun r _ => r = 1) mc ms v p kc ks (n + 1) 7 c w e dn h wr la md lv a1 a2 a3 a4 a5 a6 a7 a8 a9 a10 a11 a12 a13 a14 := by
  refine br_t (by decide) ?_
  refine bf_put 0 hF (by decide) (by decide) (fun _ => ?_)
  refine bf_put 1 hF (by decide) (by decide) (fun _ => ?_)
  refine bf_put 7 hF (by decide) (by decide) (fun _ => ?_)
  refine bf_three 9 10 11 18 14 25 hF ?_
  refine bf_three 12 13 14 1 11 14 hF ?_
  refine bf_put 15 hF (by decide) (by decide) (fun _ => ?_)
  refine bf_put 23 hF (by decide) (by decide) (fun _ => ?_)
  generalize hg : upd (upd (upd (upd (upd (upd (upd (upd (upd (upd (upd a1 0 28) 1 20) 7 19) 9 18) 10 14) 11 25) 12 1) 13 11) 14 14) 15 23) 23 29 = g
  have hG : bf_G p g := by
    subst hg
    exact ⟨rfl, rfl, h2, h3, h4, h5, h6, rfl, rfl, rfl, rfl, rfl, rfl, rfl, rfl, rfl⟩
  have no : ∀ t x, t < 16 → 0 ≤ x → ¬ a5 t = x := by
    intro t x ht hx z
    rw [hF t ht] at z
    rw [← z] at hx
    exact absurd hx (by decide)
  have hK : bf_K a5 a7 a8 a9 a10 a11 a12 a13 a14 := ⟨fun z => absurd z (no 0 0 (by omega) (by decide)), fun z => absurd z (no 1 1 (by omega) (by decide)), fun z => absurd z (no 11 11 (by omega) (by decide)), fun z => absurd z (no 12 12 (by omega) (by decide)), fun z => absurd z (no 15 15 (by omega) (by decide)), fun z => absurd z (no 8 103 (by omega) (by decide)), fun z => absurd z (no 13 87 (by omega) (by decide))⟩
  refine bf_input ?_
  refine bf_digest ?_
  refine bf_run (v := v) hp hG hK pk_us ?_ ?_
  · intro m b3 b4 md' lv' a5' a6' a7' a8' a9' a10' a11' a12' a13' a14' h1 h16 hv hK' h0 ho
    subst hv
    refine br_f (nI_nlt (b := 1) h1 (by omega)) (br_f (nI_nlt (a := 16) h16 (by omega)) ?_)
    exact bf_few hp hG hK' h1 h16 h0 ho
  · intro b3 b4 md' lv' a5' a6' a7' a8' a9' a10' a11' a12' a13' a14' hno hK' h0 ho
    have go := bf_many (mc := mc) (ms := ms) (kc := kc) (ks := ks) (md := md') (lv := lv') (a1 := g) (a2 := upd a2 0 v) (a3 := b3) (a4 := b4) (a6 := a6') hp hG hK' h0 ho
    refine br_c (fun _ => go) (fun hl => br_t ?_ go)
    rcases nI_of (x := v) (fun z => hl (Int32.lt_trans z (by decide))) with ⟨j, hj, e⟩
    rw [e] at hl hno ⊢
    refine nI_lt (a := 16) ?_ hj
    rcases Nat.lt_or_ge 16 j with q | q
    · exact q
    · rcases Nat.lt_or_ge j 1 with q' | q'
      · exact absurd (nI_lt (b := 1) q' (by omega)) hl
      · exact absurd rfl (hno j q' q)
/-- the five cells that do nothing, then the rest -/
theorem bf_lay {p v : Int32} (hp : bf_pl p) (hF : bf_F a5) : ∃ n, wL_lawOf_30 (fun r _ => r = 1) mc ms v p kc ks n 2 c w e dn h wr la md lv a1 a2 a3 a4 a5 a6 a7 a8 a9 a10 a11 a12 a13 a14 := by
  have p0 : ¬ p < 0 := by rcases hp with rfl | rfl | rfl <;> decide
  have p31 : p ≤ 31 := by rcases hp with rfl | rfl | rfl <;> decide
  refine ⟨6, ?_⟩
  refine br_f (by decide) ?_
  refine bf_put 2 hF p0 p31 (fun _ => nm_r (e' := 3) (by decide) ?_)
  refine br_f (by decide) ?_
  refine bf_put 3 hF p0 p31 (fun _ => nm_r (e' := 4) (by decide) ?_)
  refine br_f (by decide) ?_
  refine bf_put 4 hF p0 p31 (fun _ => nm_r (e' := 5) (by decide) ?_)
  refine br_f (by decide) ?_
  refine bf_put 5 hF p0 p31 (fun _ => nm_r (e' := 6) (by decide) ?_)
  refine br_f (by decide) ?_
  refine bf_put 6 hF p0 p31 (fun _ => nm_r (e' := 7) (by decide) ?_)
  exact bf_after hp hF rfl rfl rfl rfl rfl 0
end
end
section
/-! the top -/
theorem bf_lawOf (v code : Int32) : wpL_lawOf (fun r _ => r = 1) 15 725 () v code := by
  unfold wpL_lawOf
  refine ⟨by decide, by decide, 14, 702, by decide, by decide, ?_⟩
  refine bf_init (fun b5 hF => ?_)
  refine br_c (fun _ => bf_lay (Or.inl rfl) hF) (fun _ => ?_)
  obtain ⟨j, hj, e⟩ := pk_andE (code >>> ((1 : Int32) &&& 31)) (m := 1) 1 (by decide)
  rw [e]
  have hp : bf_pl (30 + nI j) := by
    rcases Nat.lt_or_ge j 1 with q | q
    · have ej : j = 0 := by omega
      subst ej
      exact Or.inr (Or.inl (by decide))
    · have ej : j = 1 := by omega
      subst ej
      exact Or.inr (Or.inr (by decide))
  exact nm_e (bf_lay hp hF)
theorem bf_cell {post : Int32 → Prop} {L : Nat} {xs : Nat → Int32} {x : Int32} (k : Nat) (hL : L ≤ 2) (hk : k ≤ 1) (hx : x = nI k) (H : ∀ r, post r) : wpL_cellAt post L xs () x := by
  subst hx
  exact pk_le L k (fun _ => H _) (fun z => ⟨pk_in k L z, H _⟩)
theorem i_vc (xs : Nat → Int32) (L : Nat) (hL : L ≤ 2) : wpL_law (fun r => r = 1) L xs :=
  bf_cell 0 hL (by omega) rfl (fun v => bf_cell 1 hL (by omega) rfl (fun code => ⟨15, 725, by decide, by decide, bf_lawOf v code⟩))
end
