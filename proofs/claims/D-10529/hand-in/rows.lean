section
/-! the class's methods, one lemma each: any state; what may change is the grid (a1), the inputs (a2) and the keys of the traces (a5) -/
/-- x, y is a cell -/
def bf_in (x y : Int32) : Prop := ¬ x < 0 ∧ ¬ 7 < x ∧ ¬ y < 0 ∧ ¬ 3 < y
/-- a cell and a code -/
def bf_set (x y k : Int32) : Prop := bf_in x y ∧ ¬ k < 0 ∧ ¬ 31 < k
/-- a cell and three codes -/
def bf_tri (x y k : Int32) : Prop := bf_in x y ∧ ¬ k < 0 ∧ ¬ 32767 < k
theorem bf_nat {x y : Int32} (h : bf_in x y) : ∃ i j : Nat, i ≤ 7 ∧ j ≤ 3 ∧ x = nI i ∧ y = nI j := by
  obtain ⟨h1, h2, h3, h4⟩ := h
  obtain ⟨i, hi, ei⟩ := nI_of2 (M := 7) (n := 7) (by decide) h1 (Int32.not_lt.mp h2)
  obtain ⟨j, hj, ej⟩ := nI_of2 (M := 3) (n := 3) (by decide) h3 (Int32.not_lt.mp h4)
  exact ⟨i, j, hi, hj, ei, ej⟩
theorem bf_ix (i j : Nat) : nI i + 8 * nI j = nI (i + 8 * j) := by
  rw [show (8 : Int32) = nI 8 from rfl, pk_mul, nI_add]
theorem bf_place {x y : Int32} (h : bf_in x y) : ∃ k : Nat, k < 32 ∧ x + 8 * y = nI k := by
  obtain ⟨i, j, hi, hj, rfl, rfl⟩ := bf_nat h
  exact ⟨i + 8 * j, by omega, bf_ix i j⟩
theorem bf_place3 (z : Int32) {x y : Int32} (h : bf_in x y) : ∃ k : Nat, k < 32 ∧ (z &&& 7) + 8 * y = nI k := by
  obtain ⟨i, j, hi, hj, rfl, rfl⟩ := bf_nat h
  obtain ⟨q, hq, eq⟩ := pk_andE z (m := 7) 3 (by decide)
  rw [eq]
  exact ⟨q + 8 * j, by omega, bf_ix q j⟩
theorem bf_d2 {post : St2 → Prop} {f1 f2 f3 f4 f5 f6 f7 f8 f9 : Int32} {a1 a2 a3 a4 a5 a6 a7 a8 a9 a10 a11 a12 a13 a14 : Nat → Int32} (H : ∀ s : Nat → Int32, post (f1, f2, f3, f4, f5, f6, f7, f8, f9, a1, a2, a3, a4, s, a6, a7, a8, a9, a10, a11, a12, a13, a14)) : ∃ n, wX_dropAll_2 post f1 f2 f3 f4 f5 f6 f7 f8 f9 n 0 a1 a2 a3 a4 a5 a6 a7 a8 a9 a10 a11 a12 a13 a14 :=
  pk_loop (fun n i s => wX_dropAll_2 post f1 f2 f3 f4 f5 f6 f7 f8 f9 n (nI i) a1 a2 a3 a4 s a6 a7 a8 a9 a10 a11 a12 a13 a14) (fun _ _ => True) 16 0 a5 (by omega) trivial
    (fun n s _ => pk_le 16 16 (fun _ => H s) (fun z => absurd z (by omega)))
    (fun n i s hi _ hw => pk_le 16 i (fun z => absurd z (by omega)) (fun _ => ⟨pk_in i 16 (by omega), nm_e (nm_r (nI_1 i) (hw _ trivial))⟩))
theorem bf_drop {post : St2 → Prop} {f1 f2 f3 f4 f5 f6 f7 f8 f9 : Int32} {a1 a2 a3 a4 a5 a6 a7 a8 a9 a10 a11 a12 a13 a14 : Nat → Int32} (H : ∀ s : Nat → Int32, post (f1, f2, f3, f4, f5, f6, f7, f8, f9, a1, a2, a3, a4, s, a6, a7, a8, a9, a10, a11, a12, a13, a14)) : wpX_dropAll post (f1, f2, f3, f4, f5, f6, f7, f8, f9, a1, a2, a3, a4, a5, a6, a7, a8, a9, a10, a11, a12, a13, a14) := by
  unfold wpX_dropAll
  exact bf_d2 H
theorem bf_w9 {post : St2 → Prop} {x1 : Int32} {f1 f2 f3 f4 f5 f6 f7 f8 f9 : Int32} {a1 a2 a3 a4 a5 a6 a7 a8 a9 a10 a11 a12 a13 a14 : Nat → Int32} (H : ∀ s : Nat → Int32, post (f1, f2, f3, f4, f5, f6, f7, f8, f9, a1, a2, a3, a4, s, a6, a7, a8, a9, a10, a11, a12, a13, a14)) : ∃ n, wX_write_9 post x1 f1 f2 f3 f4 f5 f6 f7 f8 f9 n 0 a1 a2 a3 a4 a5 a6 a7 a8 a9 a10 a11 a12 a13 a14 :=
  pk_loop (fun n i s => wX_write_9 post x1 f1 f2 f3 f4 f5 f6 f7 f8 f9 n (nI i) a1 a2 a3 a4 s a6 a7 a8 a9 a10 a11 a12 a13 a14) (fun _ _ => True) 16 0 a5 (by omega) trivial
    (fun n s _ => pk_le 16 16 (fun _ => H s) (fun z => absurd z (by omega)))
    (fun n i s hi _ hw => pk_le 16 i (fun z => absurd z (by omega)) (fun _ => ⟨pk_in i 16 (by omega),
      br_c (fun _ => nm_r (nI_1 i) (hw _ trivial)) (fun _ => ⟨pk_in i 16 (by omega),
        br_c (fun _ => ⟨pk_in i 16 (by omega), nm_e (nm_r (nI_1 i) (hw _ trivial))⟩) (fun _ => nm_r (nI_1 i) (hw _ trivial))⟩)⟩))
theorem bf_write {post : St2 → Prop} {p0 p1 : Int32} {f1 f2 f3 f4 f5 f6 f7 f8 f9 : Int32} {a1 a2 a3 a4 a5 a6 a7 a8 a9 a10 a11 a12 a13 a14 : Nat → Int32} {k : Nat} (hk : k < 32) (e : p0 = nI k) (H : ∀ s : Nat → Int32, post (f1, f2, f3, f4, f5, f6, f7, f8, f9, upd a1 k p1, a2, a3, a4, s, a6, a7, a8, a9, a10, a11, a12, a13, a14)) : wpX_write post (f1, f2, f3, f4, f5, f6, f7, f8, f9, a1, a2, a3, a4, a5, a6, a7, a8, a9, a10, a11, a12, a13, a14) p0 p1 := by
  subst e
  unfold wpX_write
  refine ⟨vp_in_nI hk (by omega), ?_⟩
  rw [nI_clamp (show k < 2 ^ 31 by omega)]
  exact nm_e (bf_w9 H)
theorem bf_bad {post : Int32 → Prop} {p0 p1 : Int32} {f1 f2 f3 f4 f5 f6 f7 f8 f9 : Int32} {a1 a2 a3 a4 a5 a6 a7 a8 a9 a10 a11 a12 a13 a14 : Nat → Int32} (h0 : bf_in p0 p1 → post 0) (h1 : ¬ bf_in p0 p1 → post 1) : wpX_badCell post (f1, f2, f3, f4, f5, f6, f7, f8, f9, a1, a2, a3, a4, a5, a6, a7, a8, a9, a10, a11, a12, a13, a14) p0 p1 := by
  unfold wpX_badCell
  exact br_c (fun g => h1 (fun t => t.1 g)) (fun g => br_c (fun g2 => h1 (fun t => t.2.1 g2)) (fun g2 => br_c (fun g3 => h1 (fun t => t.2.2.1 g3)) (fun g3 =>
    br_c (fun g4 => h0 ⟨g, g2, g3, Int32.not_lt.mpr g4⟩) (fun g4 => h1 (fun t => g4 (Int32.not_lt.mp t.2.2.2))))))
/-- put: the old code and the grid with the new one, or -1 and nothing -/
theorem bf_put {post : Int32 → St2 → Prop} {p0 p1 p2 : Int32} {f1 f2 f3 f4 f5 f6 f7 f8 f9 : Int32} {a1 a2 a3 a4 a5 a6 a7 a8 a9 a10 a11 a12 a13 a14 : Nat → Int32}
    (H : ∀ (r : Int32) (g s : Nat → Int32), (bf_set p0 p1 p2 → ∃ k : Nat, k < 32 ∧ p0 + 8 * p1 = nI k ∧ r = a1 k ∧ g = upd a1 k p2) → (¬ bf_set p0 p1 p2 → r = -1 ∧ g = a1) → post r (f1, f2, f3, f4, f5, f6, f7, f8, f9, g, a2, a3, a4, s, a6, a7, a8, a9, a10, a11, a12, a13, a14)) : wpX_put post (f1, f2, f3, f4, f5, f6, f7, f8, f9, a1, a2, a3, a4, a5, a6, a7, a8, a9, a10, a11, a12, a13, a14) p0 p1 p2 := by
  unfold wpX_put
  have H0 : ¬ bf_set p0 p1 p2 → post (-1) (f1, f2, f3, f4, f5, f6, f7, f8, f9, a1, a2, a3, a4, a5, a6, a7, a8, a9, a10, a11, a12, a13, a14) := fun n => H (-1) a1 a5 (fun z => absurd z n) (fun _ => ⟨rfl, rfl⟩)
  refine bf_bad (fun hi => br_t rfl ?_) (fun hi => br_f (by decide) (H0 (fun t => hi t.1)))
  refine br_c (fun g => H0 (fun t => t.2.1 g)) (fun g => br_c (fun g2 => ?_) (fun g2 => H0 (fun t => g2 (Int32.not_lt.mp t.2.2))))
  obtain ⟨k, hk, ek⟩ := bf_place hi
  have hs : bf_set p0 p1 p2 := ⟨hi, g, Int32.not_lt.mpr g2⟩
  have hw := fun s : Nat → Int32 => H (a1 k) (upd a1 k p2) s (fun _ => ⟨k, hk, ek, rfl, rfl⟩) (fun n => absurd hs n)
  rw [ek, nI_clamp (show k < 2 ^ 31 by omega)]
  exact ⟨vp_in_nI hk (by omega), nm_e (bf_write hk rfl hw)⟩
/-- get: the code of a cell, or -1 -/
theorem bf_get {post : Int32 → Prop} {p0 p1 : Int32} {f1 f2 f3 f4 f5 f6 f7 f8 f9 : Int32} {a1 a2 a3 a4 a5 a6 a7 a8 a9 a10 a11 a12 a13 a14 : Nat → Int32}
    (H : ∀ r : Int32, (bf_in p0 p1 → ∃ k : Nat, k < 32 ∧ p0 + 8 * p1 = nI k ∧ r = a1 k) → (¬ bf_in p0 p1 → r = -1) → post r) : wpX_get post (f1, f2, f3, f4, f5, f6, f7, f8, f9, a1, a2, a3, a4, a5, a6, a7, a8, a9, a10, a11, a12, a13, a14) p0 p1 := by
  unfold wpX_get
  refine bf_bad (fun hi => br_t rfl ?_) (fun hi => br_f (by decide) (H (-1) (fun z => absurd z hi) (fun _ => rfl)))
  obtain ⟨k, hk, ek⟩ := bf_place hi
  have hw := H (a1 k) (fun _ => ⟨k, hk, ek, rfl⟩) (fun n => absurd hi n)
  rw [ek, nI_clamp (show k < 2 ^ 31 by omega)]
  exact ⟨vp_in_nI hk (by omega), hw⟩
theorem bf_t25 {post : Int32 → St2 → Prop} {x1 x2 x3 : Int32} {f1 f2 f3 f4 f5 f6 f7 f8 f9 : Int32} {a1 a2 a3 a4 a5 a6 a7 a8 a9 a10 a11 a12 a13 a14 : Nat → Int32} (hi : bf_in x1 x2) (H : ∀ g s : Nat → Int32, post 0 (f1, f2, f3, f4, f5, f6, f7, f8, f9, g, a2, a3, a4, s, a6, a7, a8, a9, a10, a11, a12, a13, a14)) : ∃ n, wX_putThree_25 post x1 x2 x3 n 0 f1 f2 f3 f4 f5 f6 f7 f8 f9 a1 a2 a3 a4 a5 a6 a7 a8 a9 a10 a11 a12 a13 a14 :=
  pk_loop (σ := (Nat → Int32) × (Nat → Int32)) (fun n i s => wX_putThree_25 post x1 x2 x3 n (nI i) f1 f2 f3 f4 f5 f6 f7 f8 f9 s.1 a2 a3 a4 s.2 a6 a7 a8 a9 a10 a11 a12 a13 a14) (fun _ _ => True) 3 0 (a1, a5) (by omega) trivial
    (fun n s _ => pk_le 3 3 (fun _ => H s.1 s.2) (fun z => absurd z (by omega)))
    (fun n i s hlt _ hw => pk_le 3 i (fun z => absurd z (by omega)) (fun _ => by
      obtain ⟨k, hk, ek⟩ := bf_place3 (x1 + nI i) hi
      refine bf_write hk ek (fun s' => ?_)
      exact nm_r (nI_1 i) (hw (_, s') trivial)))
/-- what putThree answers -/
def bf_R3 (x y q r : Int32) : Prop := (bf_tri x y q → r = 0) ∧ (¬ bf_tri x y q → r = -1)
/-- putThree: 0, or -1 and nothing -/
theorem bf_three {post : Int32 → St2 → Prop} {p0 p1 p2 : Int32} {f1 f2 f3 f4 f5 f6 f7 f8 f9 : Int32} {a1 a2 a3 a4 a5 a6 a7 a8 a9 a10 a11 a12 a13 a14 : Nat → Int32}
    (H : ∀ (r : Int32) (g s : Nat → Int32), bf_R3 p0 p1 p2 r → post r (f1, f2, f3, f4, f5, f6, f7, f8, f9, g, a2, a3, a4, s, a6, a7, a8, a9, a10, a11, a12, a13, a14)) : wpX_putThree post (f1, f2, f3, f4, f5, f6, f7, f8, f9, a1, a2, a3, a4, a5, a6, a7, a8, a9, a10, a11, a12, a13, a14) p0 p1 p2 := by
  unfold wpX_putThree
  have H0 : ¬ bf_tri p0 p1 p2 → post (-1) (f1, f2, f3, f4, f5, f6, f7, f8, f9, a1, a2, a3, a4, a5, a6, a7, a8, a9, a10, a11, a12, a13, a14) := fun n => H (-1) a1 a5 ⟨fun z => absurd z n, fun _ => rfl⟩
  refine bf_bad (fun hi => br_t rfl ?_) (fun hi => br_f (by decide) (H0 (fun t => hi t.1)))
  exact br_c (fun g => H0 (fun t => t.2.1 g)) (fun g => br_c (fun g2 => bf_t25 hi (fun g' s' => H 0 g' s' ⟨fun _ => rfl, fun n => absurd ⟨hi, g, Int32.not_lt.mpr g2⟩ n⟩)) (fun g2 => H0 (fun t => g2 (Int32.not_lt.mp t.2.2))))
/-- what input answers -/
def bf_R4 (x r : Int32) : Prop := ((¬ x < 0 ∧ ¬ 3 < x) → r = 0) ∧ (¬ (¬ x < 0 ∧ ¬ 3 < x) → r = -1)
/-- input: 0, or -1 and nothing -/
theorem bf_input {post : Int32 → St2 → Prop} {p0 p1 : Int32} {f1 f2 f3 f4 f5 f6 f7 f8 f9 : Int32} {a1 a2 a3 a4 a5 a6 a7 a8 a9 a10 a11 a12 a13 a14 : Nat → Int32}
    (H : ∀ (r : Int32) (b : Nat → Int32), bf_R4 p0 r → post r (f1, f2, f3, f4, f5, f6, f7, f8, f9, a1, b, a3, a4, a5, a6, a7, a8, a9, a10, a11, a12, a13, a14)) : wpX_input post (f1, f2, f3, f4, f5, f6, f7, f8, f9, a1, a2, a3, a4, a5, a6, a7, a8, a9, a10, a11, a12, a13, a14) p0 p1 := by
  unfold wpX_input
  have H0 : ¬ (¬ p0 < 0 ∧ ¬ 3 < p0) → post (-1) (f1, f2, f3, f4, f5, f6, f7, f8, f9, a1, a2, a3, a4, a5, a6, a7, a8, a9, a10, a11, a12, a13, a14) := fun n => H (-1) a2 ⟨fun z => absurd z n, fun _ => rfl⟩
  refine br_c (fun g => H0 (fun t => t.1 g)) (fun g => br_c (fun g2 => ?_) (fun g2 => H0 (fun t => g2 (Int32.not_lt.mp t.2))))
  obtain ⟨j, hj, ej⟩ := nI_of2 (M := 3) (n := 3) (by decide) g g2
  exact ⟨pk_in j 4 (by omega) ej, nm_e (H 0 _ ⟨fun _ => rfl, fun n => absurd ⟨g, Int32.not_lt.mpr g2⟩ n⟩)⟩
theorem bf_ending {post : Int32 → Prop} {f1 f2 f3 f4 f5 f6 f7 f8 f9 : Int32} {a1 a2 a3 a4 a5 a6 a7 a8 a9 a10 a11 a12 a13 a14 : Nat → Int32} (H : post f7) : wpX_ending post (f1, f2, f3, f4, f5, f6, f7, f8, f9, a1, a2, a3, a4, a5, a6, a7, a8, a9, a10, a11, a12, a13, a14) := by
  unfold wpX_ending
  exact H
theorem bf_where {post : Int32 → Prop} {f1 f2 f3 f4 f5 f6 f7 f8 f9 : Int32} {a1 a2 a3 a4 a5 a6 a7 a8 a9 a10 a11 a12 a13 a14 : Nat → Int32} (H : post (f1 + 32 * f2)) : wpX_where post (f1, f2, f3, f4, f5, f6, f7, f8, f9, a1, a2, a3, a4, a5, a6, a7, a8, a9, a10, a11, a12, a13, a14) := by
  unfold wpX_where
  exact H
theorem bf_init {post : St2 → Prop} {f1 f2 f3 f4 f5 f6 f7 f8 f9 : Int32} (H : ∀ s : Nat → Int32, post (f1, f2, f3, f4, f5, f6, f7, f8, f9, (fun _ => 0), (fun _ => 0), (fun _ => 0), (fun _ => 0), s, (fun _ => 0), (fun _ => 0), (fun _ => 0), (fun _ => 0), (fun _ => 0), (fun _ => 0), (fun _ => 0), (fun _ => 0), (fun _ => 0))) : wpX_init post 14 702 (f1, f2, f3, f4, f5, f6, f7, f8, f9) := by
  unfold wpX_init
  refine ⟨by decide, by decide, by decide, by decide, by decide, by decide, by decide, by decide, by decide, by decide, by decide, by decide, by decide, by decide, by decide, by decide, by decide, by decide, by decide, by decide, by decide, by decide, by decide, by decide, by decide, by decide, by decide, by decide, ?_⟩
  exact bf_drop H
end
section
/-! the law's last expression: each of its comparisons holds -/
theorem bf_207 {post : Int32 → St0 → Prop} {mc ms : Nat} {x10 x11 z0 z1 : Int32} {kc ks : Nat} (hp : post 1 ()) (h10 : x10 = 0) (h11 : x11 = 0) (hz : z1 = z0) : wL_lawOf_207 post mc ms x10 x11 z0 z1 kc ks :=
  br_t hz (br_t h10 (br_t h11 hp))
theorem bf_206 {post : Int32 → St0 → Prop} {mc ms : Nat} {x10 x11 z0 : Int32} {kc ks : Nat} (hp : post 1 ()) (h10 : x10 = 0) (h11 : x11 = 0) (hz : z0 = -1) : wL_lawOf_206 post mc ms x10 x11 z0 kc ks := by
  unfold wL_lawOf_206
  exact bf_207 hp h10 h11 hz
theorem bf_186 {post : Int32 → St0 → Prop} {mc ms : Nat} {x4 x9 x10 x11 z0 z1 : Int32} {kc ks : Nat} (hp : post 1 ()) (h10 : x10 = 0) (h11 : x11 = 0) (h9 : bf_R4 x4 x9) (hz : z1 = z0) : wL_lawOf_186 post mc ms x4 x9 x10 x11 z0 z1 kc ks :=
  br_t hz (br_c (fun g => bf_206 hp h10 h11 (h9.2 (fun t => t.1 g))) (fun g => br_c (fun g2 => bf_206 hp h10 h11 (h9.2 (fun t => t.2 g2))) (fun g2 => bf_207 hp h10 h11 (h9.1 ⟨g, g2⟩))))
theorem bf_185 {post : Int32 → St0 → Prop} {mc ms : Nat} {x4 x9 x10 x11 z0 : Int32} {kc ks : Nat} (hp : post 1 ()) (h10 : x10 = 0) (h11 : x11 = 0) (h9 : bf_R4 x4 x9) (hz : z0 = -1) : wL_lawOf_185 post mc ms x4 x9 x10 x11 z0 kc ks := by
  unfold wL_lawOf_185
  exact bf_186 hp h10 h11 h9 hz
theorem bf_146 {post : Int32 → St0 → Prop} {mc ms : Nat} {x0 x1 x3 x4 x8 x9 x10 x11 z0 z1 : Int32} {kc ks : Nat} (hp : post 1 ()) (h10 : x10 = 0) (h11 : x11 = 0) (h9 : bf_R4 x4 x9) (h8 : bf_R3 x1 x0 x3 x8) (hz : z1 = z0) : wL_lawOf_146 post mc ms x0 x1 x3 x4 x8 x9 x10 x11 z0 z1 kc ks :=
  br_t hz (br_c (fun g => bf_185 hp h10 h11 h9 (h8.2 (fun t => t.1.1 g))) (fun g1 =>
    br_c (fun g => bf_185 hp h10 h11 h9 (h8.2 (fun t => t.1.2.1 g))) (fun g2 =>
    br_c (fun g => bf_185 hp h10 h11 h9 (h8.2 (fun t => t.1.2.2.1 g))) (fun g3 =>
    br_c (fun g => bf_185 hp h10 h11 h9 (h8.2 (fun t => t.1.2.2.2 g))) (fun g4 =>
    br_c (fun g => bf_185 hp h10 h11 h9 (h8.2 (fun t => t.2.1 g))) (fun g5 =>
    br_c (fun g => bf_185 hp h10 h11 h9 (h8.2 (fun t => t.2.2 g))) (fun g6 => bf_186 hp h10 h11 h9 (h8.1 ⟨⟨g1, g2, g3, g4⟩, g5, g6⟩))))))))
theorem bf_122 {post : Int32 → St0 → Prop} {mc ms : Nat} {x0 x1 x2 x3 x4 x7 x8 x9 x10 x11 x12 x13 z0 z1 : Int32} {kc ks : Nat} (hp : post 1 ()) (h10 : x10 = 0) (h11 : x11 = 0) (h9 : bf_R4 x4 x9) (h8 : bf_R3 x1 x0 x3 x8)
    (ha : x12 = 0 → x7 = -1) (hb : ¬ x12 = 0 → x13 = 0 → x7 = 0) (hc : ¬ x12 = 0 → ¬ x13 = 0 → x7 = x2) (hz : z1 = z0) : wL_lawOf_122 post mc ms x0 x1 x2 x3 x4 x7 x8 x9 x10 x11 x12 x13 z0 z1 kc ks :=
  br_t hz (br_c (fun g => bf_146 hp h10 h11 h9 h8 (ha g)) (fun g => br_c (fun g2 => bf_146 hp h10 h11 h9 h8 (hb g g2)) (fun g2 => bf_146 hp h10 h11 h9 h8 (hc g g2))))
theorem bf_108 {post : Int32 → St0 → Prop} {mc ms : Nat} {x0 x1 x2 x3 x4 x6 x7 x8 x9 x10 x11 x12 z0 : Int32} {kc ks : Nat} (hp : post 1 ()) (h10 : x10 = 0) (h11 : x11 = 0) (h9 : bf_R4 x4 x9) (h8 : bf_R3 x1 x0 x3 x8)
    (ha : x12 = 0 → x7 = -1) (hb : ¬ x12 = 0 → z0 = 0 → x7 = 0) (hc : ¬ x12 = 0 → ¬ z0 = 0 → x7 = x2) (hd : z0 = 0 → x6 = -1) (he : ¬ z0 = 0 → x6 = 0) : wL_lawOf_108 post mc ms x0 x1 x2 x3 x4 x6 x7 x8 x9 x10 x11 x12 z0 kc ks :=
  br_c (fun g => bf_122 hp h10 h11 h9 h8 ha hb hc (hd g)) (fun g => bf_122 hp h10 h11 h9 h8 ha hb hc (he g))
theorem bf_107 {post : Int32 → St0 → Prop} {mc ms : Nat} {x0 x1 x2 x3 x4 x6 x7 x8 x9 x10 x11 x12 : Int32} {kc ks : Nat} (hp : post 1 ()) (h10 : x10 = 0) (h11 : x11 = 0) (h9 : bf_R4 x4 x9) (h8 : bf_R3 x1 x0 x3 x8)
    (ha : x12 = 0 → x7 = -1) (hb : ¬ x12 = 0 → x7 = 0) (hd : x6 = -1) : wL_lawOf_107 post mc ms x0 x1 x2 x3 x4 x6 x7 x8 x9 x10 x11 x12 kc ks := by
  unfold wL_lawOf_107
  exact bf_108 hp h10 h11 h9 h8 ha (fun g _ => hb g) (fun _ g => absurd rfl g) (fun _ => hd) (fun g => absurd rfl g)
theorem bf_86 {post : Int32 → St0 → Prop} {mc ms : Nat} {x0 x1 x2 x3 x4 x6 x7 x8 x9 x10 x11 z0 : Int32} {kc ks : Nat} (hp : post 1 ()) (h10 : x10 = 0) (h11 : x11 = 0) (h9 : bf_R4 x4 x9) (h8 : bf_R3 x1 x0 x3 x8)
    (ha : z0 = 0 → x6 = -1 ∧ x7 = -1) (hb : ¬ z0 = 0 → ¬ (¬ x2 < 0 ∧ ¬ 31 < x2) → x6 = -1 ∧ x7 = 0) (hc : ¬ z0 = 0 → (¬ x2 < 0 ∧ ¬ 31 < x2) → x6 = 0 ∧ x7 = x2) : wL_lawOf_86 post mc ms x0 x1 x2 x3 x4 x6 x7 x8 x9 x10 x11 z0 kc ks :=
  br_c (fun g => bf_107 hp h10 h11 h9 h8 (fun _ => (ha g).2) (fun n => absurd g n) (ha g).1) (fun n =>
    br_c (fun g => bf_107 hp h10 h11 h9 h8 (fun z => absurd z n) (fun _ => (hb n (fun t => t.1 g)).2) (hb n (fun t => t.1 g)).1) (fun g1 =>
    br_c (fun g => bf_107 hp h10 h11 h9 h8 (fun z => absurd z n) (fun _ => (hb n (fun t => t.2 g)).2) (hb n (fun t => t.2 g)).1) (fun g2 =>
      bf_108 hp h10 h11 h9 h8 (fun z => absurd z n) (fun _ z => absurd z (by decide)) (fun _ _ => (hc n ⟨g1, g2⟩).2) (fun z => absurd z (by decide)) (fun _ => (hc n ⟨g1, g2⟩).1))))
theorem bf_85 {post : Int32 → St0 → Prop} {mc ms : Nat} {x0 x1 x2 x3 x4 x6 x7 x8 x9 x10 x11 : Int32} {kc ks : Nat} (hp : post 1 ()) (h10 : x10 = 0) (h11 : x11 = 0) (h9 : bf_R4 x4 x9) (h8 : bf_R3 x1 x0 x3 x8)
    (ha : x6 = -1 ∧ x7 = -1) : wL_lawOf_85 post mc ms x0 x1 x2 x3 x4 x6 x7 x8 x9 x10 x11 kc ks := by
  unfold wL_lawOf_85
  exact bf_86 hp h10 h11 h9 h8 (fun _ => ha) (fun g => absurd rfl g) (fun g => absurd rfl g)
/-- what put and the get behind it answer -/
def bf_R67 (x y k r6 r7 : Int32) : Prop := (¬ bf_in x y → r6 = -1 ∧ r7 = -1) ∧ (bf_in x y → ¬ (¬ k < 0 ∧ ¬ 31 < k) → r6 = -1 ∧ r7 = 0) ∧ (bf_in x y → (¬ k < 0 ∧ ¬ 31 < k) → r6 = 0 ∧ r7 = k)
theorem bf_top {post : Int32 → St0 → Prop} {mc ms : Nat} {p0 p1 p2 p3 p4 r6 r7 r8 r9 r10 r11 : Int32} {kc ks : Nat} (hp : post 1 ()) (h10 : r10 = 0) (h11 : r11 = 0) (h9 : bf_R4 p4 r9) (h8 : bf_R3 p1 p0 p3 r8) (h67 : bf_R67 p0 p1 p2 r6 r7) :
    ((p0 < 0 → wL_lawOf_85 post mc ms p0 p1 p2 p3 p4 r6 r7 r8 r9 r10 r11 kc ks) ∧ (¬ p0 < 0 → ((7 < p0 → wL_lawOf_85 post mc ms p0 p1 p2 p3 p4 r6 r7 r8 r9 r10 r11 kc ks) ∧ (¬ 7 < p0 → ((p1 < 0 → wL_lawOf_85 post mc ms p0 p1 p2 p3 p4 r6 r7 r8 r9 r10 r11 kc ks) ∧ (¬ p1 < 0 → ((3 < p1 → wL_lawOf_85 post mc ms p0 p1 p2 p3 p4 r6 r7 r8 r9 r10 r11 kc ks) ∧ (¬ 3 < p1 → wL_lawOf_86 post mc ms p0 p1 p2 p3 p4 r6 r7 r8 r9 r10 r11 1 kc ks)))))))) :=
  br_c (fun g => bf_85 hp h10 h11 h9 h8 (h67.1 (fun t => t.1 g))) (fun g1 =>
    br_c (fun g => bf_85 hp h10 h11 h9 h8 (h67.1 (fun t => t.2.1 g))) (fun g2 =>
    br_c (fun g => bf_85 hp h10 h11 h9 h8 (h67.1 (fun t => t.2.2.1 g))) (fun g3 =>
    br_c (fun g => bf_85 hp h10 h11 h9 h8 (h67.1 (fun t => t.2.2.2 g))) (fun g4 =>
      bf_86 hp h10 h11 h9 h8 (fun z => absurd z (by decide)) (fun _ => h67.2.1 ⟨g1, g2, g3, g4⟩) (fun _ => h67.2.2 ⟨g1, g2, g3, g4⟩)))))
end
section
/-! the law -/
/-- put on a new grid, then get -/
theorem bf_pg {p0 p1 p2 r6 r7 : Int32} {g : Nat → Int32} (h1 : bf_set p0 p1 p2 → ∃ k : Nat, k < 32 ∧ p0 + 8 * p1 = nI k ∧ r6 = (fun _ => 0 : Nat → Int32) k ∧ g = upd (fun _ => 0) k p2) (h2 : ¬ bf_set p0 p1 p2 → r6 = -1 ∧ g = fun _ => 0)
    (h3 : bf_in p0 p1 → ∃ k : Nat, k < 32 ∧ p0 + 8 * p1 = nI k ∧ r7 = g k) (h4 : ¬ bf_in p0 p1 → r7 = -1) : bf_R67 p0 p1 p2 r6 r7 := by
  refine ⟨fun n => ⟨(h2 (fun t => n t.1)).1, h4 n⟩, fun hi n => ?_, fun hi hk => ?_⟩
  · obtain ⟨k, _, _, e⟩ := h3 hi
    obtain ⟨e1, e2⟩ := h2 (fun t => n t.2)
    exact ⟨e1, by rw [e, e2]⟩
  · obtain ⟨k, hk1, ek, e⟩ := h3 hi
    obtain ⟨k', hk2, ek', e1, e2⟩ := h1 ⟨hi, hk⟩
    have ee : k = k' := (nI_eq (by omega) (by omega)).mp (ek.symm.trans ek')
    exact ⟨e1, by rw [e, e2, ee, pk_us]⟩
theorem bf_lawOf {post : Int32 → St0 → Prop} (hp : post 1 ()) (p0 p1 p2 p3 p4 : Int32) : wpL_lawOf post 392 6272 () p0 p1 p2 p3 p4 := by
  unfold wpL_lawOf
  refine ⟨by decide, by decide, 14, 702, by decide, by decide, ?_⟩
  refine bf_init (fun s1 => ?_)
  refine bf_put (fun r6 g1 s2 h1 h2 => ?_)
  refine bf_get (fun r7 h3 h4 => ?_)
  have h67 := bf_pg h1 h2 h3 h4
  refine bf_three (fun r8 g2 s3 h8 => ?_)
  refine bf_input (fun r9 b h9 => ?_)
  refine bf_ending ?_
  refine bf_where ?_
  exact bf_top hp rfl (by decide) h9 h8 h67
theorem bf_cell {post : Int32 → Prop} {L : Nat} {xs : Nat → Int32} {u : St0} (hL : L ≤ 5) (k : Nat) (hk : k < 8) (H : ∀ r, post r) : wpL_cellAt post L xs u (nI k) := by
  unfold wpL_cellAt
  exact pk_le L k (fun _ => H 0) (fun h => ⟨pk_in k L h, H _⟩)
theorem i_vc (xs : Nat → Int32) (L : Nat) (hL : L ≤ 5) : wpL_law (fun r => r = 1) L xs := by
  unfold wpL_law
  exact bf_cell hL 0 (by decide) (fun r1 => bf_cell hL 1 (by decide) (fun r2 => bf_cell hL 2 (by decide) (fun r3 => bf_cell hL 3 (by decide) (fun r4 => bf_cell hL 4 (by decide) (fun r5 =>
    ⟨392, 6272, by decide, by decide, bf_lawOf rfl r1 r2 r3 r4 r5⟩)))))
end
