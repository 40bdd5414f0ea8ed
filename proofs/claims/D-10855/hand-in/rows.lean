section
/-! plain rows: places, and orders of ints -/
theorem wr_z8 : vp_in (0 : Int32) 8 := vp_in_nI (n := 0) (by decide) (by decide)
theorem wr_z9 : vp_in (0 : Int32) 9 := vp_in_nI (n := 0) (by decide) (by decide)
theorem wr_z10 : vp_in (0 : Int32) 10 := vp_in_nI (n := 0) (by decide) (by decide)
theorem wr_us (f : Nat → Int32) (x : Int32) : upd f (0 : Int32).toNatClampNeg x 0 = x := by
  rw [sb_cl0]
  exact pk_us
theorem wr_n00 : ¬ (0 : Int32) < 0 := by decide
/-- a window in a text of no letters is the empty one at 0 -/
theorem wr_win {i j : Int32} (h1 : ¬ i < 0) (h2 : ¬ j < i) (h3 : ¬ (0 : Int32) < j) : i = 0 ∧ j = 0 := by
  rw [Int32.lt_iff_toInt_lt] at h1 h2 h3
  have e : (0 : Int32).toInt = 0 := by decide
  rw [e] at h1 h3
  exact ⟨Int32.toInt_inj.mp (by rw [e]; omega), Int32.toInt_inj.mp (by rw [e]; omega)⟩
theorem wr_zero {b : Int32} (h1 : ¬ b < 0) (h2 : b ≤ 0) : b = 0 := by
  rw [Int32.lt_iff_toInt_lt] at h1
  rw [Int32.le_iff_toInt_le] at h2
  have e : (0 : Int32).toInt = 0 := by decide
  rw [e] at h1 h2
  exact Int32.toInt_inj.mp (by rw [e]; omega)
theorem wr_ge {b : Int32} (h1 : ¬ b < 0) : (0 : Int32) ≤ b := by
  rw [Int32.lt_iff_toInt_lt] at h1
  rw [Int32.le_iff_toInt_le]
  omega
theorem wr_nlt {a b : Int32} (h : a < b) : ¬ b ≤ a := by
  rw [Int32.lt_iff_toInt_lt] at h
  rw [Int32.le_iff_toInt_le]
  omega
theorem wr_le {a b : Int32} (h : ¬ a < b) : b ≤ a := by
  rw [Int32.lt_iff_toInt_lt] at h
  rw [Int32.le_iff_toInt_le]
  omega
theorem wr_v1 {k : Nat} (hk : k < 10) : vp_in ((0 : Int32) * 10 + nI k) 100 := by
  refine pk_in k 100 (by omega) ?_
  rw [show (0 : Int32) * 10 = nI 0 from by decide, nI_add, Nat.zero_add]
theorem wr_v2 {k : Nat} (hk : k < 10) : vp_in (nI k * 10 + (0 : Int32)) 100 := by
  refine pk_in (k * 10) 100 (by omega) ?_
  rw [show (10 : Int32) = nI 10 from rfl, show (0 : Int32) = nI 0 from rfl, pk_mul, nI_add, Nat.add_zero]
/-- the letter and the weight that letter takes -/
def wr_G (c w : Int32) : Prop := ¬ c < 0 ∧ c ≤ 2 ∧ ¬ w < 0 ∧ w ≤ 9
end
section
/-! the component's methods on an object whose text is empty and whose expression in use is the empty one -/
theorem wr_init {post : St2 → Prop} (H : post (0, 0, 0, 0, 1, 1, 0, (fun _ => 0), (fun _ => 0), (fun _ => 0), (fun _ => 0), (fun _ => 0), (fun _ => 0), (fun _ => 0), (fun _ => 0), (fun _ => 0), (fun _ => 0), (fun _ => 0), (fun _ => 0), (fun _ => 0), (fun _ => 0), (fun _ => 0), (fun _ => 0), (fun _ => 0), (fun _ => 0), (fun _ => 0), (fun _ => 0), (fun _ => 0), (fun _ => 0), (fun _ => 0), (fun _ => 0), (fun _ => 0), (fun _ => 0), (fun _ => 0), (fun _ => 0), (fun _ => 0), (fun _ => 0), (fun _ => 0), (fun _ => 0), (fun _ => 0), (fun _ => 0))) : wpX_init post 523 8343 (0, 0, 0, 0, 0, 0, 0) :=
  ⟨by decide, by decide, by decide, by decide, by decide, by decide, by decide, by decide, by decide, by decide, by decide, by decide, by decide, by decide, by decide, by decide, by decide, by decide, by decide, by decide, by decide, by decide, by decide, by decide, by decide, by decide, by decide, by decide, by decide, by decide, by decide, by decide, by decide, by decide, by decide, by decide, by decide, by decide, by decide, by decide, by decide, by decide, by decide, by decide, by decide, by decide, by decide, by decide, by decide, by decide, by decide, by decide, by decide, by decide, by decide, by decide, by decide, by decide, by decide, by decide, by decide, by decide, by decide, by decide, by decide, by decide, by decide, by decide, H⟩
theorem wr_window {post : Int32 → Prop} {h m p c e w i j : Int32} {a1 a2 a3 a4 a5 a6 a7 a8 a9 a10 a11 a12 a13 a14 a15 a16 a17 a18 a19 a20 a21 a22 a23 a24 a25 a26 a27 a28 a29 a30 a31 a32 a33 a34 : Nat → Int32} (H1 : i = 0 ∧ j = 0 → post 1) (H0 : ¬ (i = 0 ∧ j = 0) → post 0) :
    wpX_window post (h, m, p, c, e, w, 0, a1, a2, a3, a4, a5, a6, a7, a8, a9, a10, a11, a12, a13, a14, a15, a16, a17, a18, a19, a20, a21, a22, a23, a24, a25, a26, a27, a28, a29, a30, a31, a32, a33, a34) i j :=
  br_c (fun z => H0 (fun q => absurd z (by rw [q.1]; decide)))
    (fun z => br_c (fun z2 => H0 (fun q => absurd z2 (by rw [q.1, q.2]; decide)))
      (fun z2 => br_c (fun z3 => H0 (fun q => absurd z3 (by rw [q.2]; decide))) (fun z3 => H1 (wr_win z z2 z3))))
theorem wr_sweep {post : St2 → Prop} {h m p c : Int32} {a1 a2 a3 a4 a5 a6 a7 a8 a9 a10 a11 a12 a13 a14 a15 a16 a17 a18 a19 a20 a21 a22 a23 a24 a25 a26 a27 a28 a29 a30 a31 a32 a33 a34 : Nat → Int32}
    (H : ∀ b31 b32 b33 : Nat → Int32, b31 0 = 1 → b32 0 = 0 → post (h, m, p, c, 1, 1, 0, a1, a2, a3, a4, a5, a6, a7, a8, a9, a10, a11, a12, a13, a14, a15, a16, a17, a18, a19, a20, a21, a22, a23, a24, a25, a26, a27, a28, a29, a30, b31, b32, b33, a34)) :
    wpX_sweep post (h, m, p, c, 1, 1, 0, a1, a2, a3, a4, a5, a6, a7, a8, a9, a10, a11, a12, a13, a14, a15, a16, a17, a18, a19, a20, a21, a22, a23, a24, a25, a26, a27, a28, a29, a30, a31, a32, a33, a34) 0 :=
  ⟨wr_z9, fun x ex => br_f (by decide) ⟨wr_z9, fun y ey => ⟨wr_z9, wr_z9, fun z _ => ⟨1, br_t (by decide) (H x y z (by rw [ex]; exact wr_us _ _) (by rw [ey]; exact wr_us _ _))⟩⟩⟩⟩
theorem wr_ways {post : Int32 → St2 → Prop} {h m p c i j : Int32} {a1 a2 a3 a4 a5 a6 a7 a8 a9 a10 a11 a12 a13 a14 a15 a16 a17 a18 a19 a20 a21 a22 a23 a24 a25 a26 a27 a28 a29 a30 a31 a32 a33 a34 : Nat → Int32}
    (H : ∀ (r : Int32) (b31 b32 b33 : Nat → Int32), (i = 0 ∧ j = 0 → r = 1) → (¬ (i = 0 ∧ j = 0) → r = 0) → post r (h, m, p, c, 1, 1, 0, a1, a2, a3, a4, a5, a6, a7, a8, a9, a10, a11, a12, a13, a14, a15, a16, a17, a18, a19, a20, a21, a22, a23, a24, a25, a26, a27, a28, a29, a30, b31, b32, b33, a34)) :
    wpX_ways post (h, m, p, c, 1, 1, 0, a1, a2, a3, a4, a5, a6, a7, a8, a9, a10, a11, a12, a13, a14, a15, a16, a17, a18, a19, a20, a21, a22, a23, a24, a25, a26, a27, a28, a29, a30, a31, a32, a33, a34) i j := by
  unfold wpX_ways
  refine wr_window (fun q => ?_) (fun q => br_t rfl (H 0 a31 a32 a33 (fun z => absurd z q) (fun _ => rfl)))
  obtain ⟨rfl, rfl⟩ := q
  refine br_f (by decide) (wr_sweep (fun b31 b32 b33 h1 _ => ⟨wr_z9, H _ b31 b32 b33 (fun _ => ?_) (fun z => absurd ⟨rfl, rfl⟩ z)⟩))
  rw [sb_cl0]
  exact h1
theorem wr_least {post : Int32 → St2 → Prop} {h m p c i j : Int32} {a1 a2 a3 a4 a5 a6 a7 a8 a9 a10 a11 a12 a13 a14 a15 a16 a17 a18 a19 a20 a21 a22 a23 a24 a25 a26 a27 a28 a29 a30 a31 a32 a33 a34 : Nat → Int32}
    (H : ∀ (r : Int32) (b31 b32 b33 : Nat → Int32), (i = 0 ∧ j = 0 → r = 0) → (¬ (i = 0 ∧ j = 0) → r = (-1)) → post r (h, m, p, c, 1, 1, 0, a1, a2, a3, a4, a5, a6, a7, a8, a9, a10, a11, a12, a13, a14, a15, a16, a17, a18, a19, a20, a21, a22, a23, a24, a25, a26, a27, a28, a29, a30, b31, b32, b33, a34)) :
    wpX_least post (h, m, p, c, 1, 1, 0, a1, a2, a3, a4, a5, a6, a7, a8, a9, a10, a11, a12, a13, a14, a15, a16, a17, a18, a19, a20, a21, a22, a23, a24, a25, a26, a27, a28, a29, a30, a31, a32, a33, a34) i j := by
  unfold wpX_least
  refine wr_window (fun q => ?_) (fun q => br_t rfl (H (-1) a31 a32 a33 (fun z => absurd z q) (fun _ => rfl)))
  obtain ⟨rfl, rfl⟩ := q
  refine br_f (by decide) (wr_sweep (fun b31 b32 b33 _ h2 => ⟨wr_z9, br_t ?_ ⟨wr_z9, H _ b31 b32 b33 (fun _ => ?_) (fun z => absurd ⟨rfl, rfl⟩ z)⟩⟩))
  · rw [sb_cl0, h2]
    decide
  · rw [sb_cl0]
    exact h2
theorem wr_longest {post : Int32 → St2 → Prop} {h m p c b : Int32} {a1 a2 a3 a4 a5 a6 a7 a8 a9 a10 a11 a12 a13 a14 a15 a16 a17 a18 a19 a20 a21 a22 a23 a24 a25 a26 a27 a28 a29 a30 a31 a32 a33 a34 : Nat → Int32}
    (H : ∀ (r : Int32) (b31 b32 b33 : Nat → Int32), (b = 0 → r = 0) → (¬ (b = 0) → r = (-1)) → post r (h, m, p, c, 1, 1, 0, a1, a2, a3, a4, a5, a6, a7, a8, a9, a10, a11, a12, a13, a14, a15, a16, a17, a18, a19, a20, a21, a22, a23, a24, a25, a26, a27, a28, a29, a30, b31, b32, b33, a34)) :
    wpX_longest post (h, m, p, c, 1, 1, 0, a1, a2, a3, a4, a5, a6, a7, a8, a9, a10, a11, a12, a13, a14, a15, a16, a17, a18, a19, a20, a21, a22, a23, a24, a25, a26, a27, a28, a29, a30, a31, a32, a33, a34) b := by
  refine br_c (fun z => H (-1) a31 a32 a33 (fun q => absurd z (by rw [q]; decide)) (fun _ => rfl)) (fun z => br_c (fun z2 => ?_) (fun z2 => H (-1) a31 a32 a33 (fun q => absurd z2 (by rw [q]; decide)) (fun _ => rfl)))
  have e : b = 0 := wr_zero z z2
  subst e
  refine wr_sweep (fun b31 b32 b33 _ h2 => ⟨1, br_f (by decide) ⟨wr_z9, br_f ?_ (H 0 b31 b32 b33 (fun _ => rfl) (fun q => absurd rfl q))⟩⟩)
  rw [sb_cl0, h2]
  decide
theorem wr_define {post : Int32 → St2 → Prop} {m p c e w l : Int32} {a1 a2 a3 a4 a5 a6 a7 a8 a9 a10 a11 a12 a13 a14 a15 a16 a17 a18 a19 a20 a21 a22 a23 a24 a25 a26 a27 a28 a29 a30 a31 a32 a33 a34 : Nat → Int32} (H : post (-3) (0, m, p, c, e, w, l, a1, a2, a3, a4, a5, a6, a7, a8, a9, a10, a11, a12, a13, a14, a15, a16, a17, a18, a19, a20, a21, a22, a23, a24, a25, a26, a27, a28, a29, a30, a31, a32, a33, a34)) :
    wpX_define post (0, m, p, c, e, w, l, a1, a2, a3, a4, a5, a6, a7, a8, a9, a10, a11, a12, a13, a14, a15, a16, a17, a18, a19, a20, a21, a22, a23, a24, a25, a26, a27, a28, a29, a30, a31, a32, a33, a34) := br_f (by decide) H
theorem wr_push {post : St2 → Prop} {p c e w l : Int32} {a1 a2 a3 a4 a5 a6 a7 a8 a9 a10 a11 a12 a13 a14 a15 a16 a17 a18 a19 a20 a21 a22 a23 a24 a25 a26 a27 a28 a29 a30 a31 a32 a33 a34 : Nat → Int32} (H : ∀ (m : Int32) (b1 b2 b3 : Nat → Int32), post (1, m, p, c, e, w, l, b1, b2, b3, a4, a5, a6, a7, a8, a9, a10, a11, a12, a13, a14, a15, a16, a17, a18, a19, a20, a21, a22, a23, a24, a25, a26, a27, a28, a29, a30, a31, a32, a33, a34)) :
    wpX_push post (0, 0, p, c, e, w, l, a1, a2, a3, a4, a5, a6, a7, a8, a9, a10, a11, a12, a13, a14, a15, a16, a17, a18, a19, a20, a21, a22, a23, a24, a25, a26, a27, a28, a29, a30, a31, a32, a33, a34) 0 0 :=
  ⟨wr_z9, fun x _ => ⟨wr_z8, fun y _ => ⟨wr_z8, fun z _ => nm_r (e' := 1) (by decide) (fun f8 _ => H f8 x y z)⟩⟩⟩
theorem wr_loop {post : Int32 → St2 → Prop} {m p c e w l : Int32} {a1 a2 a3 a4 a5 a6 a7 a8 a9 a10 a14 a15 a16 a17 a18 a19 a20 a21 a22 a23 a24 a25 a26 a27 a28 a29 a30 a31 a32 a33 a34 : Nat → Int32} (H : ∀ (q : Int32) (b11 b12 b13 : Nat → Int32), post 1 (1, m, q, c, e, w, l, a1, a2, a3, a4, a5, a6, a7, a8, a9, a10, b11, b12, b13, a14, a15, a16, a17, a18, a19, a20, a21, a22, a23, a24, a25, a26, a27, a28, a29, a30, a31, a32, a33, a34)) :
    ∀ (n k : Nat) (b11 b12 b13 : Nat → Int32), k + n = 10 → wX_leaf_105 post 0 (n + 1) (nI k) 1 m p c e w l a1 a2 a3 a4 a5 a6 a7 a8 a9 a10 b11 b12 b13 a14 a15 a16 a17 a18 a19 a20 a21 a22 a23 a24 a25 a26 a27 a28 a29 a30 a31 a32 a33 a34 := by
  intro n
  induction n with
  | zero =>
    intro k b11 b12 b13 hk
    exact br_t (nI_le (a := 10) (by omega) (by omega)) (fun f _ => H f b11 b12 b13)
  | succ n ih =>
    intro k b11 b12 b13 hk
    have v1 := wr_v1 (k := k) (by omega)
    have v2 := wr_v2 (k := k) (by omega)
    exact br_f (nI_ge (b := 10) (by omega) (by decide)) ⟨v1, fun _ _ => ⟨v1, fun _ _ => ⟨v1, fun _ _ => ⟨v2, fun x _ => ⟨v2, fun y _ => ⟨v2, fun z _ => nm_r (nI_1 k) (ih (k + 1) x y z (by omega))⟩⟩⟩⟩⟩⟩
theorem wr_leaf {post : Int32 → St2 → Prop} {c e w l k v : Int32} {a1 a2 a3 a4 a5 a6 a7 a8 a9 a10 a11 a12 a13 a14 a15 a16 a17 a18 a19 a20 a21 a22 a23 a24 a25 a26 a27 a28 a29 a30 a31 a32 a33 a34 : Nat → Int32}
    (H0 : ¬ (¬ v < 0 ∧ v ≤ 9) → post (-1) (0, 0, 0, c, e, w, l, a1, a2, a3, a4, a5, a6, a7, a8, a9, a10, a11, a12, a13, a14, a15, a16, a17, a18, a19, a20, a21, a22, a23, a24, a25, a26, a27, a28, a29, a30, a31, a32, a33, a34))
    (H1 : (¬ v < 0 ∧ v ≤ 9) → ∀ (m q : Int32) (b1 b2 b3 b4 b5 b6 b7 b8 b9 b10 b11 b12 b13 : Nat → Int32), post 1 (1, m, q, c, e, w, l, b1, b2, b3, b4, b5, b6, b7, b8, b9, b10, b11, b12, b13, a14, a15, a16, a17, a18, a19, a20, a21, a22, a23, a24, a25, a26, a27, a28, a29, a30, a31, a32, a33, a34)) :
    wpX_leaf post (0, 0, 0, c, e, w, l, a1, a2, a3, a4, a5, a6, a7, a8, a9, a10, a11, a12, a13, a14, a15, a16, a17, a18, a19, a20, a21, a22, a23, a24, a25, a26, a27, a28, a29, a30, a31, a32, a33, a34) k v := by
  refine br_c (fun z => H0 (fun q => q.1 z)) (fun z => br_c (fun z2 => ?_) (fun z2 => H0 (fun q => z2 q.2)))
  refine br_f (by decide) (br_f (by decide) (br_f (by decide) (wr_push (fun m b1 b2 b3 => ?_))))
  refine ⟨wr_z10, fun b4 _ => ⟨wr_z10, fun b5 _ => ⟨wr_z10, fun b6 _ => ⟨wr_z10, fun b7 _ => ⟨wr_z10, fun b8 _ => ⟨wr_z10, fun b9 _ => ⟨wr_z10, fun b10 _ => ⟨11, ?_⟩⟩⟩⟩⟩⟩⟩⟩
  exact wr_loop (fun q b11 b12 b13 => H1 ⟨z, z2⟩ m q b1 b2 b3 b4 b5 b6 b7 b8 b9 b10 b11 b12 b13) 10 0 a11 a12 a13 (by decide)
theorem wr_letter {post : Int32 → St2 → Prop} {c e w l k v : Int32} {a1 a2 a3 a4 a5 a6 a7 a8 a9 a10 a11 a12 a13 a14 a15 a16 a17 a18 a19 a20 a21 a22 a23 a24 a25 a26 a27 a28 a29 a30 a31 a32 a33 a34 : Nat → Int32}
    (H : ∀ (r h m q : Int32) (b1 b2 b3 b4 b5 b6 b7 b8 b9 b10 b11 b12 b13 : Nat → Int32), (wr_G k v → r = 1) → (¬ wr_G k v → r = (-1)) → post r (h, m, q, c, e, w, l, b1, b2, b3, b4, b5, b6, b7, b8, b9, b10, b11, b12, b13, a14, a15, a16, a17, a18, a19, a20, a21, a22, a23, a24, a25, a26, a27, a28, a29, a30, a31, a32, a33, a34)) :
    wpX_letter post (0, 0, 0, c, e, w, l, a1, a2, a3, a4, a5, a6, a7, a8, a9, a10, a11, a12, a13, a14, a15, a16, a17, a18, a19, a20, a21, a22, a23, a24, a25, a26, a27, a28, a29, a30, a31, a32, a33, a34) k v := by
  have N : ¬ wr_G k v → post (-1) (0, 0, 0, c, e, w, l, a1, a2, a3, a4, a5, a6, a7, a8, a9, a10, a11, a12, a13, a14, a15, a16, a17, a18, a19, a20, a21, a22, a23, a24, a25, a26, a27, a28, a29, a30, a31, a32, a33, a34) := fun g => H (-1) 0 0 0 a1 a2 a3 a4 a5 a6 a7 a8 a9 a10 a11 a12 a13 (fun q => absurd q g) (fun _ => rfl)
  refine br_c (fun z => N (fun q => q.1 z)) (fun z => br_c (fun z2 => ?_) (fun z2 => N (fun q => z2 q.2.1)))
  exact wr_leaf (fun g => N (fun q => g q.2.2)) (fun g m q b1 b2 b3 b4 b5 b6 b7 b8 b9 b10 b11 b12 b13 => H 1 1 m q b1 b2 b3 b4 b5 b6 b7 b8 b9 b10 b11 b12 b13 (fun _ => rfl) (fun n => absurd ⟨z, z2, g⟩ n))
theorem wr_put {post : Int32 → St2 → Prop} {h m p c e w i k : Int32} {a1 a2 a3 a4 a5 a6 a7 a8 a9 a10 a11 a12 a13 a14 a15 a16 a17 a18 a19 a20 a21 a22 a23 a24 a25 a26 a27 a28 a29 a30 a31 a32 a33 a34 : Nat → Int32} (H : post (-1) (h, m, p, c, e, w, 0, a1, a2, a3, a4, a5, a6, a7, a8, a9, a10, a11, a12, a13, a14, a15, a16, a17, a18, a19, a20, a21, a22, a23, a24, a25, a26, a27, a28, a29, a30, a31, a32, a33, a34)) :
    wpX_put post (h, m, p, c, e, w, 0, a1, a2, a3, a4, a5, a6, a7, a8, a9, a10, a11, a12, a13, a14, a15, a16, a17, a18, a19, a20, a21, a22, a23, a24, a25, a26, a27, a28, a29, a30, a31, a32, a33, a34) i k := br_c (fun _ => H) (fun z => br_t (wr_ge z) H)
end
section
/-! the law's checks, from the last to the first -/
theorem wr_155 {post : Int32 → St0 → Prop} {mc ms kc ks : Nat} {x11 z0 z1 : Int32} (hz : z1 = z0) (h11 : x11 = (-1)) (H : post 1 ()) : wL_lawOf_155 post mc ms x11 z0 z1 kc ks :=
  br_t hz (br_t h11 H)
theorem wr_117 {post : Int32 → St0 → Prop} {mc ms kc ks : Nat} {x3 x4 x9 x10 x11 z0 z1 : Int32} (hz : z1 = z0) (h9 : x9 = (-3)) (h10 : wr_G x3 x4 → x10 = 1) (h10' : ¬ wr_G x3 x4 → x10 = (-1)) (h11 : x11 = (-1)) (H : post 1 ()) :
    wL_lawOf_117 post mc ms x3 x4 x9 x10 x11 z0 z1 kc ks := by
  have B : ¬ wr_G x3 x4 → wL_lawOf_150 post mc ms x11 x10 kc ks := fun g => wr_155 (h10' g) h11 H
  refine br_t hz (br_t h9 (br_c (fun z => B (fun q => q.1 z)) (fun z => br_c (fun z2 => B (fun q => wr_nlt z2 q.2.1)) (fun z2 => br_c (fun z3 => B (fun q => q.2.2.1 z3)) (fun z3 => br_c (fun z4 => ?_) (fun z4 => B (fun q => z4 q.2.2.2)))))))
  exact wr_155 (h10 ⟨z, wr_le z2, z3, z4⟩) h11 H
theorem wr_103 {post : Int32 → St0 → Prop} {mc ms kc ks : Nat} {x2 x3 x4 x8 x9 x10 x11 z0 z1 : Int32} (hz : z1 = z0) (h8 : x2 = 0 → x8 = 0) (h8' : ¬ x2 = 0 → x8 = (-1)) (h9 : x9 = (-3)) (h10 : wr_G x3 x4 → x10 = 1) (h10' : ¬ wr_G x3 x4 → x10 = (-1)) (h11 : x11 = (-1)) (H : post 1 ()) :
    wL_lawOf_103 post mc ms x2 x3 x4 x8 x9 x10 x11 z0 z1 kc ks :=
  br_t hz (br_c (fun z => wr_117 (h8 z) h9 h10 h10' h11 H) (fun z => wr_117 (h8' z) h9 h10 h10' h11 H))
theorem wr_74 {post : Int32 → St0 → Prop} {mc ms kc ks : Nat} {x2 x3 x4 x6 x7 x8 x9 x10 x11 z : Int32} (h6 : z = 0 → x6 = 0) (h6' : ¬ z = 0 → x6 = 1) (h7 : z = 0 → x7 = (-1)) (h7' : ¬ z = 0 → x7 = 0) (h8 : x2 = 0 → x8 = 0) (h8' : ¬ x2 = 0 → x8 = (-1)) (h9 : x9 = (-3)) (h10 : wr_G x3 x4 → x10 = 1) (h10' : ¬ wr_G x3 x4 → x10 = (-1)) (h11 : x11 = (-1)) (H : post 1 ()) :
    wL_lawOf_74 post mc ms x2 x3 x4 x6 x7 x8 x9 x10 x11 z kc ks :=
  br_c (fun q => br_t (h6 q) (br_t q (wr_103 (h7 q) h8 h8' h9 h10 h10' h11 H)))
    (fun q => br_t (h6' q) (br_f q (wr_103 (h7' q) h8 h8' h9 h10 h10' h11 H)))
theorem wr_lawOf (i j b c w : Int32) : wpL_lawOf (fun r _ => r = 1) 524 8384 () i j b c w := by
  refine ⟨by decide, by decide, 523, 8343, by decide, by decide, wr_init ?_⟩
  refine wr_ways (fun r1 _ _ _ h1 h1' => ?_)
  refine wr_least (fun r2 _ _ _ h2 h2' => ?_)
  refine wr_longest (fun r3 _ _ _ h3 h3' => ?_)
  refine wr_define ?_
  refine wr_letter (fun r5 _ _ _ _ _ _ _ _ _ _ _ _ _ _ _ _ h5 h5' => ?_)
  refine wr_put ?_
  have F : ¬ (i = 0 ∧ j = 0) → wL_lawOf_74 (fun r _ => r = 1) 524 8384 b c w r1 r2 r3 (-3) r5 (-1) 0 (1 + 523) (41 + 8343) := fun g =>
    wr_74 (fun _ => h1' g) (fun q => absurd rfl q) (fun _ => h2' g) (fun q => absurd rfl q) h3 h3' rfl h5 h5' rfl rfl
  refine br_c (fun z => br_c (fun z2 => ?_) (fun z2 => F (fun q => z2 q.2))) (fun z => F (fun q => z q.1))
  exact wr_74 (fun q => absurd q (by decide)) (fun _ => h1 ⟨z, z2⟩) (fun q => absurd q (by decide)) (fun _ => h2 ⟨z, z2⟩) h3 h3' rfl h5 h5' rfl rfl
theorem wr_cell {post : Int32 → Prop} {L : Nat} {xs : Nat → Int32} {x : Int32} (k : Nat) (hL : L ≤ 5) (hk : k ≤ 4) (hx : x = nI k) (H : ∀ r, post r) : wpL_cellAt post L xs () x :=
  pk_le L k (fun _ => H 0) (fun z => ⟨pk_in k L z hx (by omega), H _⟩) rfl hx (by omega) (by omega)
theorem i_vc (xs : Nat → Int32) (L : Nat) (hL : L ≤ 5) : wpL_law (fun r => r = 1) L xs :=
  wr_cell 0 hL (by decide) rfl (fun i => wr_cell 1 hL (by decide) rfl (fun j => wr_cell 2 hL (by decide) rfl (fun b => wr_cell 3 hL (by decide) rfl (fun c => wr_cell 4 hL (by decide) rfl (fun w => ⟨524, 8384, by decide, by decide, wr_lawOf i j b c w⟩)))))
end
