section
/-- the picture: what the law's object holds as far as stream 2 (and the emptiness of the others) is asked for:
r read point, e end, n ranges, l and h the first range of stream 2 -/
def sa_K (r e n l h : Int32) (a2 a3 a4 a5 a6 : Nat → Int32) : Prop :=
  (a2 0 = 0 ∧ a2 1 = 0 ∧ a2 2 = r ∧ a2 3 = 0) ∧ (a3 0 = -1 ∧ a3 1 = -1 ∧ a3 2 = e ∧ a3 3 = -1) ∧ (a4 0 = 0 ∧ a4 1 = 0 ∧ a4 2 = n ∧ a4 3 = 0) ∧ a5 26 = l ∧ a6 26 = h
theorem sa_us {a : Nat → Int32} {k j : Nat} {x y : Int32} (hk : k = j) (hx : x = y) : upd a k x j = y := by
  subst hk hx
  exact pk_us
theorem sa_up {a : Nat → Int32} {k k' : Nat} {x x' : Int32} (hk : k = k') (hx : x = x') : upd a k x = upd a k' x' := by rw [hk, hx]
theorem sa_K2 {r e n l h r' : Int32} {a2 a3 a4 a5 a6 : Nat → Int32} {k : Nat} {x : Int32} (K : sa_K r e n l h a2 a3 a4 a5 a6) (hk : k = 2) (hx : x = r') : sa_K r' e n l h (upd a2 k x) a3 a4 a5 a6 := by
  subst hk hx
  exact ⟨⟨(pk_un (by decide)).trans K.1.1, (pk_un (by decide)).trans K.1.2.1, pk_us, (pk_un (by decide)).trans K.1.2.2.2⟩, K.2⟩
theorem sa_K3 {r e n l h e' : Int32} {a2 a3 a4 a5 a6 : Nat → Int32} {k : Nat} {x : Int32} (K : sa_K r e n l h a2 a3 a4 a5 a6) (hk : k = 2) (hx : x = e') : sa_K r e' n l h a2 (upd a3 k x) a4 a5 a6 := by
  subst hk hx
  exact ⟨K.1, ⟨(pk_un (by decide)).trans K.2.1.1, (pk_un (by decide)).trans K.2.1.2.1, pk_us, (pk_un (by decide)).trans K.2.1.2.2.2⟩, K.2.2⟩
theorem sa_K4 {r e n l h n' : Int32} {a2 a3 a4 a5 a6 : Nat → Int32} {k : Nat} {x : Int32} (K : sa_K r e n l h a2 a3 a4 a5 a6) (hk : k = 2) (hx : x = n') : sa_K r e n' l h a2 a3 (upd a4 k x) a5 a6 := by
  subst hk hx
  exact ⟨K.1, K.2.1, ⟨(pk_un (by decide)).trans K.2.2.1.1, (pk_un (by decide)).trans K.2.2.1.2.1, pk_us, (pk_un (by decide)).trans K.2.2.1.2.2.2⟩, K.2.2.2⟩
theorem sa_K5 {r e n l h l' : Int32} {a2 a3 a4 a5 a6 : Nat → Int32} {k : Nat} {x : Int32} (K : sa_K r e n l h a2 a3 a4 a5 a6) (hk : k = 26) (hx : x = l') : sa_K r e n l' h a2 a3 a4 (upd a5 k x) a6 := by
  subst hk hx
  exact ⟨K.1, K.2.1, K.2.2.1, pk_us, K.2.2.2.2⟩
theorem sa_K6 {r e n l h h' : Int32} {a2 a3 a4 a5 a6 : Nat → Int32} {k : Nat} {x : Int32} (K : sa_K r e n l h a2 a3 a4 a5 a6) (hk : k = 26) (hx : x = h') : sa_K r e n l h' a2 a3 a4 a5 (upd a6 k x) := by
  subst hk hx
  exact ⟨K.1, K.2.1, K.2.2.1, K.2.2.2.1, pk_us⟩
/-! small facts about ints -/
theorem sa_i0 : vp_in 0 4 := vp_in_iff.mpr (by decide)
theorem sa_i1 : vp_in 1 4 := vp_in_iff.mpr (by decide)
theorem sa_i2 : vp_in 2 4 := vp_in_iff.mpr (by decide)
theorem sa_i3 : vp_in 3 4 := vp_in_iff.mpr (by decide)
theorem sa_lt {x x' y : Int32} (e : x = x') (h : x' < y) : x < y := by rw [e]; exact h
theorem sa_nlt {x y y' : Int32} (e : y = y') (h : ¬ x < y') : ¬ x < y := by rw [e]; exact h
theorem sa_nltL {x x' y : Int32} (e : x = x') (h : ¬ x' < y) : ¬ x < y := by rw [e]; exact h
theorem sa_le {x x' y : Int32} (e : x = x') (h : x' ≤ y) : x ≤ y := by rw [e]; exact h
theorem sa_nle {x x' y : Int32} (e : x = x') (h : ¬ x' ≤ y) : ¬ x ≤ y := by rw [e]; exact h
theorem sa_leR {x y y' : Int32} (e : y = y') (h : x ≤ y') : x ≤ y := by rw [e]; exact h
theorem sa_nleR {x y y' : Int32} (e : y = y') (h : ¬ x ≤ y') : ¬ x ≤ y := by rw [e]; exact h
theorem sa_neq {x x' y y' : Int32} (e : x = x') (e' : y = y') (h : ¬ x' = y') : ¬ x = y := by rw [e, e']; exact h
theorem sa_cz {x y : Int32} (h : y = 0) : x + (y - 0) = x := by
  subst h
  simp
theorem sa_cr {x y r v : Int32} (h : y = r) : x + (y - v) = x + (r - v) := by rw [h]
theorem sa_p24 {x : Int32} (h : x = 0) : x + 24 = 24 := by
  subst h
  decide
theorem sa_p1 {x : Int32} (h : x = 0) : x + 1 = 1 := by
  subst h
  decide
theorem sa_m0 {x : Int32} (h : x = 1) : x - 0 = 1 := by
  subst h
  decide
theorem sa_d1 {x : Int32} (h : x = 1) : x ≤ (0 + 1) + 0 := by
  subst h
  decide
theorem sa_k0 {x : Int32} (h : x = 0) : (13 * 2) + x ≤ 26 := by
  subst h
  decide
theorem sa_k1 {x : Int32} (h : x = 1) : ¬ (13 * 2) + x ≤ 26 := by
  subst h
  decide
theorem sa_k2 {x : Int32} (h : x = 1) : (13 * 2) + x ≤ 27 := by
  subst h
  decide
theorem sa_m6 {x : Int32} (h : x = 6) : x - 0 = 6 := by
  subst h
  decide
theorem sa_sh {x s s' : Int32} (h : s = s') : (x >>> (s &&& 31)) &&& 255 = (x >>> (s' &&& 31)) &&& 255 := by rw [h]
theorem sa_gr25 : ∀ j, j < 25 → ¬ (56 + (0 - 6) : Int32) < nI j - 6 := by decide +kernel
theorem sa_gr {x : Int32} (h6 : 6 ≤ x) (h24 : x ≤ 24) : ¬ (56 + (0 - 6) : Int32) < x - 6 := by
  have h0 : ¬ x < 0 := by
    rw [Int32.lt_iff_toInt_lt]
    rw [Int32.le_iff_toInt_le] at h6
    have e6 : (6 : Int32).toInt = 6 := by decide
    have e0 : (0 : Int32).toInt = 0 := by decide
    omega
  obtain ⟨j, hj, rfl⟩ := nI_of2 (M := 24) (n := 24) (by decide) h0 h24
  exact sa_gr25 j (by omega)
theorem sa_6pos {x : Int32} (h6 : 6 ≤ x) : ¬ x < 0 := by
  rw [Int32.lt_iff_toInt_lt]
  rw [Int32.le_iff_toInt_le] at h6
  have e6 : (6 : Int32).toInt = 6 := by decide
  have e0 : (0 : Int32).toInt = 0 := by decide
  omega
theorem sa_6nn {x : Int32} (h6 : 6 ≤ x) : 0 ≤ x := by
  rw [Int32.le_iff_toInt_le]
  rw [Int32.le_iff_toInt_le] at h6
  have e6 : (6 : Int32).toInt = 6 := by decide
  have e0 : (0 : Int32).toInt = 0 := by decide
  omega
theorem sa_nl6 {x : Int32} (h : ¬ x < 6) : 6 ≤ x := by
  rw [Int32.le_iff_toInt_le]
  rw [Int32.lt_iff_toInt_lt] at h
  omega
theorem sa_l6 {x : Int32} (h : x < 6) : ¬ 6 ≤ x := by
  rw [Int32.le_iff_toInt_le]
  rw [Int32.lt_iff_toInt_lt] at h
  omega
theorem sa_n6 {x : Int32} (h : ¬ 6 ≤ x) : x < 6 := by
  rw [Int32.lt_iff_toInt_lt]
  rw [Int32.le_iff_toInt_le] at h
  omega
theorem sa_neg6 {x : Int32} (h : ¬ 0 ≤ x) : x < 6 := by
  rw [Int32.lt_iff_toInt_lt]
  rw [Int32.le_iff_toInt_le] at h
  have e6 : (6 : Int32).toInt = 6 := by decide
  have e0 : (0 : Int32).toInt = 0 := by decide
  omega
theorem sa_24 {x : Int32} (h : ¬ x ≤ 24) : 24 < x ∧ ¬ x < 6 := by
  rw [Int32.lt_iff_toInt_lt, Int32.lt_iff_toInt_lt]
  rw [Int32.le_iff_toInt_le] at h
  have e6 : (6 : Int32).toInt = 6 := by decide
  have e24 : (24 : Int32).toInt = 24 := by decide
  omega
theorem sa_n24 {x : Int32} (h : x ≤ 24) : ¬ 24 < x := by
  rw [Int32.lt_iff_toInt_lt]
  rw [Int32.le_iff_toInt_le] at h
  omega
theorem sa_rfl (x : Int32) : x ≤ x := by
  rw [Int32.le_iff_toInt_le]
  omega
theorem sa_irr (x : Int32) : ¬ x < x := by
  rw [Int32.lt_iff_toInt_lt]
  omega
theorem sa_ss (x : Int32) : x - x ≤ 0 := by
  rw [Int32.sub_self]
  exact sa_rfl 0
end
section
theorem sa_is {post : Int32 → Prop} {s : Int32} (h0 : ¬ s < 0) (h3 : ¬ 3 < s) (hp : post 1) : wpX_isStream post () s := br_f h0 (br_f h3 hp)
theorem sa_is2 {post : Int32 → Prop} (hp : post 1) : wpX_isStream post () 2 := sa_is (by decide) (by decide) hp
/-- highest of a stream that has neither end nor range: its read point -/
theorem sa_hi0 {post : Int32 → Prop} {a1 a2 a3 a4 a5 a6 : Nat → Int32} {s r : Int32} (h0 : ¬ s < 0) (h3 : ¬ 3 < s) (hin : vp_in s 4) (e3 : a3 s.toNatClampNeg = -1) (e4 : a4 s.toNatClampNeg = 0) (e2 : a2 s.toNatClampNeg = r) (hp : post r) : wpX_highest post (a1, a2, a3, a4, a5, a6) s := by
  unfold wpX_highest
  exact sa_is h0 h3 (br_f (by decide) ⟨hin, br_t (sa_lt e3 (by decide)) ⟨hin, nm_r e4 (br_t (by decide) ⟨hin, sb_at (P := post) e2 hp⟩)⟩⟩)
/-- 'highest(2) is v' -/
def sa_H (v : Int32) (a1 a2 a3 a4 a5 a6 : Nat → Int32) : Prop := ∀ post : Int32 → Prop, post v → wpX_highest post (a1, a2, a3, a4, a5, a6) 2
theorem sa_H0 {r l h : Int32} {a1 a2 a3 a4 a5 a6 : Nat → Int32} (K : sa_K r (-1) 0 l h a2 a3 a4 a5 a6) : sa_H r a1 a2 a3 a4 a5 a6 :=
  fun post hp => sa_hi0 (by decide) (by decide) sa_i2 K.2.1.2.2.1 K.2.2.1.2.2.1 K.1.2.2.1 hp
theorem sa_H1 {r l h : Int32} {a1 a2 a3 a4 a5 a6 : Nat → Int32} (K : sa_K r (-1) 1 l h a2 a3 a4 a5 a6) : sa_H h a1 a2 a3 a4 a5 a6 := by
  intro post hp
  unfold wpX_highest
  exact sa_is2 (br_f (by decide) ⟨sa_i2, br_t (sa_lt K.2.1.2.2.1 (by decide)) ⟨sa_i2, nm_r K.2.2.1.2.2.1 (br_f (by decide) ⟨vp_in_iff.mpr (by decide), sb_at (P := post) K.2.2.2.2 hp⟩)⟩⟩)
theorem sa_He {r e n l h : Int32} {a1 a2 a3 a4 a5 a6 : Nat → Int32} (K : sa_K r e n l h a2 a3 a4 a5 a6) (he : ¬ e < 0) : sa_H e a1 a2 a3 a4 a5 a6 := by
  intro post hp
  unfold wpX_highest
  exact sa_is2 (br_f (by decide) ⟨sa_i2, br_f (sa_nltL K.2.1.2.2.1 he) ⟨sa_i2, sb_at (P := post) K.2.1.2.2.1 hp⟩⟩)
theorem sa_credit {post : Int32 → Prop} {r e n l h v : Int32} {a1 a2 a3 a4 a5 a6 : Nat → Int32} (K : sa_K r e n l h a2 a3 a4 a5 a6) (H : sa_H v a1 a2 a3 a4 a5 a6) (hp : post (56 + (r - v))) : wpX_credit post (a1, a2, a3, a4, a5, a6) := by
  unfold wpX_credit
  refine Exists.intro 5 ?_
  refine br_f (by decide) (sa_hi0 (by decide) (by decide) sa_i0 K.2.1.1 K.2.2.1.1 K.1.1 ⟨sa_i0, nm_r (sa_cz K.1.1) (nm_r (e' := 1) (by decide) ?_)⟩)
  refine br_f (by decide) (sa_hi0 (by decide) (by decide) sa_i1 K.2.1.2.1 K.2.2.1.2.1 K.1.2.1 ⟨sa_i1, nm_r (sa_cz K.1.2.1) (nm_r (e' := 2) (by decide) ?_)⟩)
  refine br_f (by decide) (H _ ⟨sa_i2, nm_r (sa_cr K.1.2.2.1) (nm_r (e' := 3) (by decide) ?_)⟩)
  refine br_f (by decide) (sa_hi0 (by decide) (by decide) sa_i3 K.2.1.2.2.2 K.2.2.1.2.2.2 K.1.2.2.2 ⟨sa_i3, nm_r (sa_cz K.1.2.2.2) (nm_r (e' := 4) (by decide) ?_)⟩)
  exact br_t (by decide) hp
theorem sa_lim {post : Int32 → Prop} {a1 a2 a3 a4 a5 a6 : Nat → Int32} (e2 : a2 2 = 0) (hp : post 24) : wpX_limitOf post (a1, a2, a3, a4, a5, a6) 2 := by
  unfold wpX_limitOf
  exact And.intro sa_i2 (nm_r (e' := 24) (sa_p24 e2) (br_t (by decide) hp))
theorem sa_may0 {post : Int32 → Prop} {a1 a2 a3 a4 a5 a6 : Nat → Int32} {x : Int32} (e2 : a2 2 = 0) (ht : ¬ x ≤ 24) (hp : post 0) : wpX_mayReach post (a1, a2, a3, a4, a5, a6) 2 x := by
  unfold wpX_mayReach
  exact sa_lim e2 (br_f ht hp)
theorem sa_may1 {post : Int32 → Prop} {a1 a2 a3 a4 a5 a6 : Nat → Int32} {e n l h v x : Int32} (K : sa_K 0 e n l h a2 a3 a4 a5 a6) (H : sa_H v a1 a2 a3 a4 a5 a6) (ht : x ≤ 24) (hc : ¬ x - v ≤ 0 → ¬ 56 + (0 - v) < x - v) (hp : post 1) : wpX_mayReach post (a1, a2, a3, a4, a5, a6) 2 x := by
  unfold wpX_mayReach
  exact sa_lim K.1.2.2.1 (br_t ht (H _ (nm_e (br_c (fun _ => hp) (fun z => sa_credit K H (br_f (hc z) hp))))))
/-! isKnown -/
theorem sa_kn0 {post : Int32 → Prop} {a1 a2 a3 a4 a5 a6 : Nat → Int32} {t : Int32} (e4 : a4 2 = 0) (hp : post 0) : wpX_isKnown post (a1, a2, a3, a4, a5, a6) 2 t := by
  unfold wpX_isKnown
  exact nm_r (e' := 26) (by decide) (Exists.intro 1 (And.intro sa_i2 (br_t (sa_k0 e4) hp)))
theorem sa_kn1 {post : Int32 → Prop} {a1 a2 a3 a4 a5 a6 : Nat → Int32} {t l h : Int32} (e4 : a4 2 = 1) (e5 : a5 26 = l) (e6 : a6 26 = h) (hl : ¬ t < l) (hh : ¬ h ≤ t) (hp : post 1) : wpX_isKnown post (a1, a2, a3, a4, a5, a6) 2 t := by
  unfold wpX_isKnown
  exact nm_r (e' := 26) (by decide) (Exists.intro 1 (And.intro sa_i2 (br_f (sa_k1 e4) ⟨vp_in_iff.mpr (by decide), br_f (sa_nlt e5 hl) ⟨vp_in_iff.mpr (by decide), br_f (sa_nle e6 hh) hp⟩⟩)))
theorem sa_knh {post : Int32 → Prop} {a1 a2 a3 a4 a5 a6 : Nat → Int32} {t l h : Int32} (e4 : a4 2 = 1) (e5 : a5 26 = l) (e6 : a6 26 = h) (hl : ¬ t < l) (hh : h ≤ t) (hp : post 0) : wpX_isKnown post (a1, a2, a3, a4, a5, a6) 2 t := by
  unfold wpX_isKnown
  exact nm_r (e' := 26) (by decide) (Exists.intro 2 (And.intro sa_i2 (br_f (sa_k1 e4) ⟨vp_in_iff.mpr (by decide), br_f (sa_nlt e5 hl) ⟨vp_in_iff.mpr (by decide), br_t (sa_le e6 hh) (nm_r (e' := 27) (by decide) (And.intro sa_i2 (br_t (sa_k2 e4) hp)))⟩⟩)))
/-! the ranges -/
theorem sa_open {post : St2 → Prop} {a1 a2 a3 a4 a5 a6 : Nat → Int32} (e4 : a4 2 = 0) (hp : post (a1, a2, a3, upd a4 2 1, a5, a6)) : wpX_openRange post (a1, a2, a3, a4, a5, a6) 2 0 := by
  unfold wpX_openRange
  exact nm_e (And.intro sa_i2 (nm_r (e' := 0) e4 (Exists.intro 1 (br_t (by decide) ⟨sa_i2, sa_i2, nm_r (e' := upd a4 2 1) (sa_up (by decide) (sa_p1 e4)) hp⟩))))
theorem sa_drop {post : St2 → Prop} {a1 a2 a3 a4 a5 a6 : Nat → Int32} (e4 : a4 2 = 1) (hp : post (a1, a2, a3, upd a4 2 1, a5, a6)) : wpX_dropRanges post (a1, a2, a3, a4, a5, a6) 2 (0 + 1) 1 := by
  unfold wpX_dropRanges
  exact nm_e (nm_r (e' := 0) (by decide) (Exists.intro 1 (And.intro sa_i2 (br_t (sa_d1 e4) ⟨sa_i2, sa_i2, nm_r (e' := upd a4 2 1) (sa_up (by decide) (sa_m0 e4)) hp⟩))))
theorem sa_197 {post : St2 → Prop} {x4 x6 x8 x9 v w : Int32} {b1 b2 b3 b4 b5 b6 : Nat → Int32} (hi : vp_in (x4 + x6) 52) (hk : (x4 + x6).toNatClampNeg = 26) (h8 : x8 = v) (h9 : x9 = w) (hp : post (b1, b2, b3, b4, upd b5 26 v, upd b6 26 w)) : wX_addRange_197 post x4 x6 x8 x9 b1 b2 b3 b4 b5 b6 := by
  subst h8 h9
  unfold wX_addRange_197
  exact And.intro hi (nm_r (sa_up hk rfl) (And.intro hi (nm_r (sa_up hk rfl) hp)))
theorem sa_j : vp_in (26 + 0) 52 := vp_in_iff.mpr (by decide)
theorem sa_addA {post : St2 → Prop} {a1 a2 a3 a4 a5 a6 : Nat → Int32} (e4 : a4 2 = 0) (hp : post (a1, a2, a3, upd a4 2 1, upd a5 26 0, upd a6 26 4)) : wpX_addRange post (a1, a2, a3, a4, a5, a6) 2 0 4 := by
  unfold wpX_addRange
  refine nm_r (e' := 26) (by decide) (And.intro sa_i2 (nm_r (e' := 0) e4 (Exists.intro 1 (br_t (by decide) (Exists.intro 1 ?_)))))
  exact br_t (by decide) (br_t rfl (sa_open e4 (sa_197 sa_j (by decide) rfl rfl hp)))
theorem sa_addB {post : St2 → Prop} {a1 a2 a3 a4 a5 a6 : Nat → Int32} (e4 : a4 2 = 1) (e5 : a5 26 = 0) (e6 : a6 26 = 4) (hp : post (a1, a2, a3, upd a4 2 1, upd a5 26 0, upd a6 26 6)) : wpX_addRange post (a1, a2, a3, a4, a5, a6) 2 2 6 := by
  unfold wpX_addRange
  refine nm_r (e' := 26) (by decide) (And.intro sa_i2 (nm_r (e' := 1) e4 (Exists.intro 2 ?_)))
  refine br_f (by decide) ⟨sa_j, br_t (sa_leR e6 (by decide)) (nm_r (e' := 1) (by decide) (br_t (by decide) (Exists.intro 2 ?_)))⟩
  refine br_f (by decide) ⟨sa_j, br_f (sa_nlt e5 (by decide)) ⟨sa_j, br_f (sa_nleR e5 (by decide)) ⟨sa_j, ?_⟩⟩⟩
  unfold wX_addRange_123
  refine And.intro sa_j (br_t (sa_le e6 (by decide)) (nm_r (e' := 1) (by decide) (nm_r (e' := 1) (by decide) ?_)))
  exact br_t (by decide) (br_f (by decide) (sa_drop e4 (sa_197 sa_j (by decide) e5 rfl hp)))
end
section
/-- the constructor: all zero but the four ends -/
theorem sa_init {post : St2 → Prop} {mc ms : Nat} (hc : 6 ≤ mc) (hs : 244 ≤ ms) (hp : ∀ a1 a2 a3 a4 a5 a6 : Nat → Int32, sa_K 0 (-1) 0 0 0 a2 a3 a4 a5 a6 → post (a1, a2, a3, a4, a5, a6)) : wpX_init post mc ms () := by
  unfold wpX_init
  refine ⟨by omega, by omega, by omega, by omega, by omega, by omega, by omega, by omega, by omega, by omega, by omega, by omega, Exists.intro 5 ?_⟩
  refine br_f (by decide) ⟨sa_i0, nm_r (sa_up (k' := 0) (by decide) rfl) (nm_r (e' := 1) (by decide) ?_)⟩
  refine br_f (by decide) ⟨sa_i1, nm_r (sa_up (k' := 1) (by decide) rfl) (nm_r (e' := 2) (by decide) ?_)⟩
  refine br_f (by decide) ⟨sa_i2, nm_r (sa_up (k' := 2) (by decide) rfl) (nm_r (e' := 3) (by decide) ?_)⟩
  refine br_f (by decide) ⟨sa_i3, nm_r (sa_up (k' := 3) (by decide) rfl) (nm_r (e' := 4) (by decide) ?_)⟩
  refine br_t (by decide) (hp _ _ _ _ _ _ ?_)
  exact ⟨⟨rfl, rfl, rfl, rfl⟩, ⟨rfl, rfl, rfl, rfl⟩, ⟨rfl, rfl, rfl, rfl⟩, rfl, rfl⟩
/-- the law's first piece: four fresh bytes; the ring's place 67 holds the last of them -/
theorem sa_pA {post : Int32 → St2 → Prop} {a1 a2 a3 a4 a5 a6 : Nat → Int32} {x l h : Int32} (K : sa_K 0 (-1) 0 l h a2 a3 a4 a5 a6)
    (hp : ∀ b1 b4 b5 b6 : Nat → Int32, b1 67 = (x >>> ((24 : Int32) &&& 31)) &&& 255 → sa_K 0 (-1) 1 0 4 a2 a3 b4 b5 b6 → post 4 (b1, a2, a3, b4, b5, b6)) : wpX_piece post (a1, a2, a3, a4, a5, a6) 2 0 4 x := by
  unfold wpX_piece
  refine sa_is2 (br_f (by decide) (br_f (by decide) (br_f (by decide) (br_f (by decide) (br_t (by decide) (nm_r (e' := 4) (by decide) ⟨sa_i2, br_t (sa_lt K.2.1.2.2.1 (by decide)) ?_⟩))))))
  unfold wX_piece_58
  refine sa_may1 K (sa_H0 K) (by decide) (fun _ => by decide) (br_f (by decide) ⟨sa_i2, br_t (sa_leR K.1.2.2.1 (by decide)) ⟨sa_i2, nm_r (e' := 0) K.1.2.2.1 (Exists.intro 5 ?_)⟩⟩)
  refine br_f (by decide) (sa_kn0 K.2.2.1.2.2.1 (br_t rfl ⟨vp_in_iff.mpr (by decide), nm_e (nm_r (e' := 1) (by decide) (nm_r (e' := 1) (by decide) ?_))⟩))
  refine br_f (by decide) (sa_kn0 K.2.2.1.2.2.1 (br_t rfl ⟨vp_in_iff.mpr (by decide), nm_e (nm_r (e' := 2) (by decide) (nm_r (e' := 2) (by decide) ?_))⟩))
  refine br_f (by decide) (sa_kn0 K.2.2.1.2.2.1 (br_t rfl ⟨vp_in_iff.mpr (by decide), nm_e (nm_r (e' := 3) (by decide) (nm_r (e' := 3) (by decide) ?_))⟩))
  refine br_f (by decide) (sa_kn0 K.2.2.1.2.2.1 (br_t rfl ⟨vp_in_iff.mpr (by decide), nm_e (nm_r (e' := 4) (by decide) (nm_r (e' := 4) (by decide) ?_))⟩))
  exact br_t (by decide) (br_f (by decide) (sa_addA K.2.2.1.2.2.1 (hp _ _ _ _ (sa_us (by decide) (sa_sh (by decide))) (sa_K6 (sa_K5 (sa_K4 K rfl rfl) rfl rfl) rfl rfl))))
/-- the law's second piece: two of four bytes are fresh -/
theorem sa_pB {post : Int32 → St2 → Prop} {a1 a2 a3 a4 a5 a6 : Nat → Int32} {x c : Int32} (K : sa_K 0 (-1) 1 0 4 a2 a3 a4 a5 a6) (h67 : a1 67 = c)
    (hp : ∀ b1 b4 b5 b6 : Nat → Int32, b1 67 = c → b1 68 = (x >>> ((16 : Int32) &&& 31)) &&& 255 → sa_K 0 (-1) 1 0 6 a2 a3 b4 b5 b6 → post 2 (b1, a2, a3, b4, b5, b6)) : wpX_piece post (a1, a2, a3, a4, a5, a6) 2 2 4 x := by
  unfold wpX_piece
  refine sa_is2 (br_f (by decide) (br_f (by decide) (br_f (by decide) (br_f (by decide) (br_t (by decide) (nm_r (e' := 6) (by decide) ⟨sa_i2, br_t (sa_lt K.2.1.2.2.1 (by decide)) ?_⟩))))))
  unfold wX_piece_58
  refine sa_may1 K (sa_H1 K) (by decide) (fun _ => by decide) (br_f (by decide) ⟨sa_i2, br_f (sa_nleR K.1.2.2.1 (by decide)) (Exists.intro 5 ?_)⟩)
  refine br_f (by decide) (sa_kn1 K.2.2.1.2.2.1 K.2.2.2.1 K.2.2.2.2 (by decide) (by decide) (br_f (by decide) (nm_r (e' := 3) (by decide) ?_)))
  refine br_f (by decide) (sa_kn1 K.2.2.1.2.2.1 K.2.2.2.1 K.2.2.2.2 (by decide) (by decide) (br_f (by decide) (nm_r (e' := 4) (by decide) ?_)))
  refine br_f (by decide) (sa_knh K.2.2.1.2.2.1 K.2.2.2.1 K.2.2.2.2 (by decide) (by decide) (br_t rfl ⟨vp_in_iff.mpr (by decide), nm_e (nm_r (e' := 1) (by decide) (nm_r (e' := 5) (by decide) ?_))⟩))
  refine br_f (by decide) (sa_knh K.2.2.1.2.2.1 K.2.2.2.1 K.2.2.2.2 (by decide) (by decide) (br_t rfl ⟨vp_in_iff.mpr (by decide), nm_e (nm_r (e' := 2) (by decide) (nm_r (e' := 6) (by decide) ?_))⟩))
  exact br_t (by decide) (br_f (by decide) (sa_addB K.2.2.1.2.2.1 K.2.2.2.1 K.2.2.2.2 (hp _ _ _ _ ((pk_un (by decide)).trans ((pk_un (by decide)).trans h67)) ((pk_un (by decide)).trans (sa_us (by decide) (sa_sh (by decide)))) (sa_K6 (sa_K5 (sa_K4 K rfl rfl) rfl rfl) rfl rfl))))
/-! finish -/
theorem sa_fin1 {post : Int32 → St2 → Prop} {a1 a2 a3 a4 a5 a6 : Nat → Int32} {x : Int32} (hx : ¬ 0 ≤ x) (hp : post (-1) (a1, a2, a3, a4, a5, a6)) : wpX_finish post (a1, a2, a3, a4, a5, a6) 2 x := by
  unfold wpX_finish
  exact sa_is2 (br_f (by decide) (br_f hx hp))
theorem sa_fin2 {post : Int32 → St2 → Prop} {a1 a2 a3 a4 a5 a6 : Nat → Int32} {x : Int32} (K : sa_K 0 (-1) 1 0 6 a2 a3 a4 a5 a6) (h0 : 0 ≤ x) (h6 : ¬ 6 ≤ x) (hp : post (-3) (a1, a2, a3, a4, a5, a6)) : wpX_finish post (a1, a2, a3, a4, a5, a6) 2 x := by
  unfold wpX_finish
  refine sa_is2 (br_f (by decide) (br_t h0 ⟨sa_i2, nm_r (e' := -1) K.2.1.2.2.1 (br_t (by decide) ?_)⟩))
  unfold wX_finish_29
  exact sa_H1 K _ (br_f h6 hp)
theorem sa_fin3 {post : Int32 → St2 → Prop} {a1 a2 a3 a4 a5 a6 : Nat → Int32} {x : Int32} (K : sa_K 0 (-1) 1 0 6 a2 a3 a4 a5 a6) (h6 : 6 ≤ x) (h24 : ¬ x ≤ 24) (hp : post (-2) (a1, a2, a3, a4, a5, a6)) : wpX_finish post (a1, a2, a3, a4, a5, a6) 2 x := by
  unfold wpX_finish
  refine sa_is2 (br_f (by decide) (br_t (sa_6nn h6) ⟨sa_i2, nm_r (e' := -1) K.2.1.2.2.1 (br_t (by decide) ?_)⟩))
  unfold wX_finish_29
  exact sa_H1 K _ (br_t h6 (sa_may0 K.1.2.2.1 h24 (br_t rfl hp)))
theorem sa_fin4 {post : Int32 → St2 → Prop} {a1 a2 a3 a4 a5 a6 : Nat → Int32} {x : Int32} (K : sa_K 0 (-1) 1 0 6 a2 a3 a4 a5 a6) (h6 : 6 ≤ x) (h24 : x ≤ 24) (hp : ∀ b3 : Nat → Int32, sa_K 0 x 1 0 6 a2 b3 a4 a5 a6 → post 0 (a1, a2, b3, a4, a5, a6)) : wpX_finish post (a1, a2, a3, a4, a5, a6) 2 x := by
  unfold wpX_finish
  refine sa_is2 (br_f (by decide) (br_t (sa_6nn h6) ⟨sa_i2, nm_r (e' := -1) K.2.1.2.2.1 (br_t (by decide) ?_)⟩))
  unfold wX_finish_29
  exact sa_H1 K _ (br_t h6 (sa_may1 K (sa_H1 K) h24 (fun _ => sa_gr h6 h24) (br_f (by decide) ⟨sa_i2, nm_e (hp _ (sa_K3 K (by decide) rfl))⟩)))
theorem sa_fin5 {post : Int32 → St2 → Prop} {a1 a2 a3 a4 a5 a6 : Nat → Int32} {e x : Int32} (K : sa_K 0 e 1 0 6 a2 a3 a4 a5 a6) (he : ¬ e < 0) (h0 : 0 ≤ x) (hne : ¬ e = x) (hp : post (-3) (a1, a2, a3, a4, a5, a6)) : wpX_finish post (a1, a2, a3, a4, a5, a6) 2 x := by
  unfold wpX_finish
  exact sa_is2 (br_f (by decide) (br_t h0 ⟨sa_i2, nm_r (e' := e) K.2.1.2.2.1 (br_f he (br_f hne hp))⟩))
theorem sa_fin6 {post : Int32 → St2 → Prop} {a1 a2 a3 a4 a5 a6 : Nat → Int32} {e : Int32} (K : sa_K 0 e 1 0 6 a2 a3 a4 a5 a6) (h6 : 6 ≤ e) (h24 : e ≤ 24) (hp : ∀ b3 : Nat → Int32, sa_K 0 e 1 0 6 a2 b3 a4 a5 a6 → post 0 (a1, a2, b3, a4, a5, a6)) : wpX_finish post (a1, a2, a3, a4, a5, a6) 2 e := by
  unfold wpX_finish
  refine sa_is2 (br_f (by decide) (br_t (sa_6nn h6) ⟨sa_i2, nm_r (e' := e) K.2.1.2.2.1 (br_f (sa_6pos h6) (br_t rfl ?_))⟩))
  unfold wX_finish_29
  exact sa_He K (sa_6pos h6) _ (br_t (sa_rfl e) (sa_may1 K (sa_He K (sa_6pos h6)) h24 (fun z => absurd (sa_ss e) z) (br_f (by decide) ⟨sa_i2, nm_e (hp _ (sa_K3 K (by decide) rfl))⟩)))
/-! readable, read -/
theorem sa_rdb {post : Int32 → Prop} {a1 a2 a3 a4 a5 a6 : Nat → Int32} {e : Int32} (K : sa_K 0 e 1 0 6 a2 a3 a4 a5 a6) (hp : post 6) : wpX_readable post (a1, a2, a3, a4, a5, a6) 2 := by
  unfold wpX_readable
  exact sa_is2 (br_f (by decide) ⟨sa_i2, nm_r (e' := 0) K.1.2.2.1 (sa_kn1 K.2.2.1.2.2.1 K.2.2.2.1 K.2.2.2.2 (by decide) (by decide) (br_f (by decide) ⟨vp_in_iff.mpr (by decide), sb_at (P := post) (sa_m6 K.2.2.2.2) hp⟩))⟩)
theorem sa_read {post : Int32 → St2 → Prop} {a1 a2 a3 a4 a5 a6 : Nat → Int32} {r e r' c : Int32} {k : Nat} (K : sa_K r e 1 r 6 a2 a3 a4 a5 a6) (he : ¬ e = r) (h6 : ¬ 6 ≤ r) (h' : r + 1 = r') (h7 : ¬ r' = 6) (hin : vp_in ((32 * 2) + (r &&& 31)) 128) (hk : ((32 * 2) + (r &&& 31)).toNatClampNeg = k) (hc : a1 k = c)
    (hp : ∀ b2 b5 : Nat → Int32, sa_K r' e 1 r' 6 b2 a3 a4 b5 a6 → post c (a1, b2, a3, a4, b5, a6)) : wpX_read post (a1, a2, a3, a4, a5, a6) 2 := by
  have e26 : (13 * 2 : Int32).toNatClampNeg = 26 := by decide
  have e5 : a5 (13 * 2 : Int32).toNatClampNeg + 1 = r' := by
    rw [e26, K.2.2.2.1]
    exact h'
  unfold wpX_read
  refine sa_is2 (br_f (by decide) ⟨sa_i2, nm_r (e' := r) K.1.2.2.1 ⟨sa_i2, br_f (sa_neq K.2.1.2.2.1 rfl he) (sa_kn1 K.2.2.1.2.2.1 K.2.2.2.1 K.2.2.2.2 (sa_irr r) h6 (br_f (by decide) ⟨sa_i2, nm_e ⟨vp_in_iff.mpr (by decide), vp_in_iff.mpr (by decide), nm_e ⟨vp_in_iff.mpr (by decide), vp_in_iff.mpr (by decide), br_f (sa_neq (sa_us rfl e5) K.2.2.2.2 h7) ?_⟩⟩⟩))⟩⟩)
  unfold wX_read_91
  refine And.intro hin ?_
  have hq : a1 ((32 * 2) + (r &&& 31)).toNatClampNeg = c := by
    rw [hk]
    exact hc
  rw [hq]
  exact hp _ _ (sa_K5 (sa_K2 K (by decide) h') (by decide) e5)
end
section
theorem sa_ne {e k : Int32} (hE : e < 0 ∨ 5 < e) (hk : ¬ (k < 0 ∨ 5 < k)) : ¬ e = k := by
  intro z
  subst z
  exact hk hE
/-- the law's end: readable, three reads, and the two bytes -/
theorem sa_218 {post : Int32 → St0 → Prop} {mc ms kc ks : Nat} {x0 x1 z e : Int32} {a1 a2 a3 a4 a5 a6 : Nat → Int32} (K : sa_K 0 e 1 0 6 a2 a3 a4 a5 a6) (hE : e < 0 ∨ 5 < e) (h67 : a1 67 = (x0 >>> ((24 : Int32) &&& 31)) &&& 255) (h68 : a1 68 = (x1 >>> ((16 : Int32) &&& 31)) &&& 255) (hp : post 1 ()) : wL_lawOf_218 post mc ms x0 x1 z z kc ks a1 a2 a3 a4 a5 a6 := by
  unfold wL_lawOf_218
  refine br_t rfl (sa_rdb K (br_t rfl ?_))
  refine sa_read (r' := 1) (k := 64) K (sa_ne hE (by decide)) (by decide) (by decide) (by decide) (vp_in_iff.mpr (by decide)) (by decide) rfl (fun b2 b5 K1 => ?_)
  refine sa_read (r' := 2) (k := 65) K1 (sa_ne hE (by decide)) (by decide) (by decide) (by decide) (vp_in_iff.mpr (by decide)) (by decide) rfl (fun c2 c5 K2 => ?_)
  refine sa_read (r' := 3) (k := 66) K2 (sa_ne hE (by decide)) (by decide) (by decide) (by decide) (vp_in_iff.mpr (by decide)) (by decide) rfl (fun d2 d5 K3 => ?_)
  refine sa_read (r' := 4) (k := 67) K3 (sa_ne hE (by decide)) (by decide) (by decide) (by decide) (vp_in_iff.mpr (by decide)) (by decide) h67 (fun f2 f5 K4 => br_t rfl ?_)
  exact sa_read (r' := 5) (k := 68) K4 (sa_ne hE (by decide)) (by decide) (by decide) (by decide) (vp_in_iff.mpr (by decide)) (by decide) h68 (fun g2 g5 K5 => br_t rfl hp)
theorem sa_198n {post : Int32 → St0 → Prop} {mc ms kc ks : Nat} {x0 x1 : Int32} {a1 a2 a3 a4 a5 a6 : Nat → Int32} (K : sa_K 0 (-1) 1 0 6 a2 a3 a4 a5 a6) (h67 : a1 67 = (x0 >>> ((24 : Int32) &&& 31)) &&& 255) (h68 : a1 68 = (x1 >>> ((16 : Int32) &&& 31)) &&& 255) (hp : post 1 ()) : wL_lawOf_198 post mc ms x0 x1 (-1) kc ks a1 a2 a3 a4 a5 a6 := by
  unfold wL_lawOf_198
  exact sa_H1 K _ (br_t (by decide) (sa_218 K (Or.inl (by decide)) h67 h68 hp))
theorem sa_5 {e : Int32} (h6 : 6 ≤ e) : 5 < e := by
  rw [Int32.lt_iff_toInt_lt]
  rw [Int32.le_iff_toInt_le] at h6
  have e6 : (6 : Int32).toInt = 6 := by decide
  have e5 : (5 : Int32).toInt = 5 := by decide
  omega
theorem sa_198e {post : Int32 → St0 → Prop} {mc ms kc ks : Nat} {x0 x1 e : Int32} {a1 a2 a3 a4 a5 a6 : Nat → Int32} (K : sa_K 0 e 1 0 6 a2 a3 a4 a5 a6) (h6 : 6 ≤ e) (h67 : a1 67 = (x0 >>> ((24 : Int32) &&& 31)) &&& 255) (h68 : a1 68 = (x1 >>> ((16 : Int32) &&& 31)) &&& 255) (hp : post 1 ()) : wL_lawOf_198 post mc ms x0 x1 e kc ks a1 a2 a3 a4 a5 a6 := by
  unfold wL_lawOf_198
  exact sa_He K (sa_6pos h6) _ (br_f (sa_6pos h6) (sa_218 K (Or.inr (sa_5 h6)) h67 h68 hp))
/-- the second finish where the first one set no end -/
theorem sa_105n {post : Int32 → St0 → Prop} {mc ms kc ks : Nat} {x0 x1 x2 x3 z : Int32} {a1 a2 a3 a4 a5 a6 : Nat → Int32} (K : sa_K 0 (-1) 1 0 6 a2 a3 a4 a5 a6) (h67 : a1 67 = (x0 >>> ((24 : Int32) &&& 31)) &&& 255) (h68 : a1 68 = (x1 >>> ((16 : Int32) &&& 31)) &&& 255) (hp : post 1 ()) : wL_lawOf_105 post mc ms x0 x1 x2 x3 0 z z kc ks a1 a2 a3 a4 a5 a6 := by
  unfold wL_lawOf_105
  refine br_t rfl ?_
  by_cases h0 : 0 ≤ x3
  · by_cases h6 : 6 ≤ x3
    · by_cases h24 : x3 ≤ 24
      · refine sa_fin4 K h6 h24 (fun b3 K' => br_t h0 (br_t rfl (br_t h6 (br_t h24 ?_))))
        unfold wL_lawOf_167
        exact br_t rfl (br_t rfl (br_f (fun z => sa_l6 z h6) (br_f (sa_n24 h24) (sa_198e K' h6 h67 h68 hp))))
      · refine sa_fin3 K h6 h24 (br_t h0 (br_t rfl (br_t h6 (br_f h24 ?_))))
        unfold wL_lawOf_167 wL_lawOf_197
        exact br_t rfl (br_t rfl (br_f (fun z => sa_l6 z h6) (br_t (sa_24 h24).1 (sa_198n K h67 h68 hp))))
    · refine sa_fin2 K h0 h6 (br_t h0 (br_t rfl (br_f h6 ?_)))
      unfold wL_lawOf_167 wL_lawOf_197
      exact br_t rfl (br_t rfl (br_t (sa_n6 h6) (sa_198n K h67 h68 hp)))
  · refine sa_fin1 h0 (br_f h0 ?_)
    unfold wL_lawOf_167 wL_lawOf_197
    exact br_t rfl (br_t rfl (br_t (sa_neg6 h0) (sa_198n K h67 h68 hp)))
/-- the second finish where the first one set the end x2 -/
theorem sa_105e {post : Int32 → St0 → Prop} {mc ms kc ks : Nat} {x0 x1 x2 x3 z : Int32} {a1 a2 a3 a4 a5 a6 : Nat → Int32} (K : sa_K 0 x2 1 0 6 a2 a3 a4 a5 a6) (h6 : 6 ≤ x2) (h24 : x2 ≤ 24) (h67 : a1 67 = (x0 >>> ((24 : Int32) &&& 31)) &&& 255) (h68 : a1 68 = (x1 >>> ((16 : Int32) &&& 31)) &&& 255) (hp : post 1 ()) : wL_lawOf_105 post mc ms x0 x1 x2 x3 1 z z kc ks a1 a2 a3 a4 a5 a6 := by
  unfold wL_lawOf_105
  refine br_t rfl ?_
  by_cases h0 : 0 ≤ x3
  · by_cases hq : x3 = x2
    · subst hq
      refine sa_fin6 K h6 h24 (fun b3 K' => br_t h0 (br_f (by decide) (br_t rfl ?_)))
      unfold wL_lawOf_167
      exact br_t rfl (br_f (by decide) (sa_198e K' h6 h67 h68 hp))
    · refine sa_fin5 K (sa_6pos h6) h0 (fun z => hq z.symm) (br_t h0 (br_f (by decide) (br_f hq ?_)))
      unfold wL_lawOf_167
      exact br_t rfl (br_f (by decide) (sa_198e K h6 h67 h68 hp))
  · refine sa_fin1 h0 (br_f h0 ?_)
    unfold wL_lawOf_167
    exact br_t rfl (br_f (by decide) (sa_198e K h6 h67 h68 hp))
/-- the law behind the two pieces -/
theorem sa_48 {post : Int32 → St0 → Prop} {mc ms kc ks : Nat} {x0 x1 x2 x3 : Int32} {a1 a2 a3 a4 a5 a6 : Nat → Int32} (K : sa_K 0 (-1) 1 0 6 a2 a3 a4 a5 a6) (h67 : a1 67 = (x0 >>> ((24 : Int32) &&& 31)) &&& 255) (h68 : a1 68 = (x1 >>> ((16 : Int32) &&& 31)) &&& 255) (hp : post 1 ()) :
    (x2 ≤ 24 → wL_lawOf_48 post mc ms x0 x1 x2 x3 0 kc ks a1 a2 a3 a4 a5 a6) ∧ (¬ x2 ≤ 24 → wL_lawOf_48 post mc ms x0 x1 x2 x3 1 kc ks a1 a2 a3 a4 a5 a6) := by
  unfold wL_lawOf_48 wL_lawOf_65
  refine br_c (fun h24 => br_c (fun g => ?_) (fun g => br_t rfl ?_)) (fun h24 => br_f (sa_24 h24).2 (br_f (by decide) ?_))
  · unfold wL_lawOf_66
    by_cases h0 : 0 ≤ x2
    · exact sa_fin2 K h0 (sa_l6 g) (br_t h0 (br_f (sa_l6 g) (sa_105n K h67 h68 hp)))
    · exact sa_fin1 h0 (br_f h0 (sa_105n K h67 h68 hp))
  · unfold wL_lawOf_66
    exact sa_fin4 K (sa_nl6 g) h24 (fun b3 K' => br_t (sa_6nn (sa_nl6 g)) (br_t (sa_nl6 g) (br_t rfl (sa_105e K' (sa_nl6 g) h24 h67 h68 hp))))
  · unfold wL_lawOf_66
    have g := sa_nl6 (sa_24 h24).2
    exact sa_fin3 K g h24 (br_t (sa_6nn g) (br_t g (br_f (by decide) (sa_105n K h67 h68 hp))))
theorem sa_lawOf {post : Int32 → St0 → Prop} {p0 p1 p2 p3 : Int32} (hp : post 1 ()) : wpL_lawOf post 140 2224 () p0 p1 p2 p3 := by
  unfold wpL_lawOf
  refine ⟨by decide, by decide, 6, 244, by decide, by decide, sa_init (by decide) (by decide) (fun a1 a2 a3 a4 a5 a6 K => ?_)⟩
  refine sa_pA K (fun b1 b4 b5 b6 h67 K1 => br_t rfl ?_)
  exact sa_pB K1 h67 (fun c1 c4 c5 c6 h67' h68 K2 => br_t rfl (sa_48 K2 h67' h68 hp))
theorem sa_cell {post : Int32 → Prop} {L : Nat} {xs : Nat → Int32} (hL : L ≤ 4) (k : Nat) (hk : k < 4) (h : ∀ x, post x) : wpL_cellAt post L xs () (nI k) := by
  unfold wpL_cellAt
  refine br_c (fun _ => h _) (fun z => ⟨vp_in_nI ?_ (by omega), h _⟩)
  rcases Nat.lt_or_ge k L with g | g
  · exact g
  · exact absurd (nI_le g (by omega)) z
theorem i_vc (xs : Nat → Int32) (L : Nat) (hL : L ≤ 4) : wpL_law (fun r => r = 1) L xs := by
  unfold wpL_law
  exact sa_cell hL 0 (by omega) (fun x0 => sa_cell hL 1 (by omega) (fun x1 => sa_cell hL 2 (by omega) (fun x2 => sa_cell hL 3 (by omega) (fun x3 => ⟨140, 2224, by decide, by decide, sa_lawOf rfl⟩))))
end
