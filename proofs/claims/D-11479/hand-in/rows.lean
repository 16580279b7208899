section
/-! pure rows -/
theorem sl_in8 {p : Int32} : vp_in p 8 ↔ (¬ p < 0 ∧ p ≤ 7) := by
  rw [vp_in_iff, Int32.lt_iff_toInt_lt, Int32.le_iff_toInt_le]
  rw [show (0 : Int32).toInt = 0 by decide, show (7 : Int32).toInt = 7 by decide]
  omega
theorem sl_in16 {p : Int32} : vp_in p 16 ↔ (¬ p < 0 ∧ p ≤ 15) := by
  rw [vp_in_iff, Int32.lt_iff_toInt_lt, Int32.le_iff_toInt_le]
  rw [show (0 : Int32).toInt = 0 by decide, show (15 : Int32).toInt = 15 by decide]
  omega
theorem sl_nle {x y : Int32} : ¬ x ≤ y ↔ y < x := by
  rw [Int32.lt_iff_toInt_lt, Int32.le_iff_toInt_le]
  omega
theorem sl_nlt {x y : Int32} : ¬ x < y ↔ y ≤ x := by
  rw [Int32.lt_iff_toInt_lt, Int32.le_iff_toInt_le]
  omega
theorem sl_bit0 : ∀ i, i < 28 → ¬ (((0 : Int32) >>> (nI i &&& 31)) &&& 1) = 1 := by decide +kernel
theorem sl_bitN : ∀ i, i < 28 → i ≠ 14 → ¬ (((16384 : Int32) >>> (nI i &&& 31)) &&& 1) = 1 := by decide +kernel
theorem sl_bitY : (((16384 : Int32) >>> (nI 14 &&& 31)) &&& 1) = 1 := by decide +kernel
theorem sl_or : ((0 : Int32) ||| ((1 : Int32) <<< (nI 14 &&& 31))) = 16384 := by decide +kernel
theorem sl_c0 : (0 : Int32).toNatClampNeg = 0 := by decide
theorem sl_1n0 : ¬ (1 : Int32) = 0 := by decide
theorem sl_m1n : (-1 : Int32) < 0 := by decide
theorem sl_m1p : ¬ (0 : Int32) ≤ (-1) := by decide
theorem sl_nb0 : narrow .boolean (.int (0 : Int32)) = .int 0 := by decide
theorem sl_nb1 : narrow .boolean (.int (1 : Int32)) = .int 1 := by decide
/-! the small methods -/
theorem sl_badReg {post : Int32 → Prop} {p : Int32} {u : St2} (h0 : vp_in p 8 → post 0) (h1 : ¬ vp_in p 8 → post 1) : wpX_badReg post u p := by
  obtain ⟨c, le, rd, ln, vi, a1, a2, a3, a4, a5, a6, a7, a8, a9, a10, a11, a12, a13, a14, a15, a16, a17, a18⟩ := u
  exact br_c (fun z => h1 (fun q => (sl_in8.mp q).1 z)) (fun z => br_c (fun y => h0 (sl_in8.mpr ⟨z, y⟩)) (fun y => h1 (fun q => y (sl_in8.mp q).2)))
theorem sl_badAddress {post : Int32 → Prop} {p : Int32} {u : St2} (h0 : vp_in p 16 → post 0) (h1 : ¬ vp_in p 16 → post 1) : wpX_badAddress post u p := by
  obtain ⟨c, le, rd, ln, vi, a1, a2, a3, a4, a5, a6, a7, a8, a9, a10, a11, a12, a13, a14, a15, a16, a17, a18⟩ := u
  exact br_c (fun z => h1 (fun q => (sl_in16.mp q).1 z)) (fun z => br_c (fun y => h0 (sl_in16.mpr ⟨z, y⟩)) (fun y => h1 (fun q => y (sl_in16.mp q).2)))
theorem sl_setRegister {post : Int32 → St2 → Prop} {p q : Int32} {c le rd ln vi : Int32} {a1 a2 a3 a4 a5 a6 a7 a8 a9 a10 a11 a12 a13 a14 a15 a16 a17 a18 : Nat → Int32} (h0 : vp_in p 8 → post 0 (c, le, rd, ln, vi, a1, a2, a3, a4, a5, upd a6 p.toNatClampNeg q, a7, a8, a9, a10, a11, a12, a13, a14, a15, a16, a17, a18)) (h1 : ¬ vp_in p 8 → post (-1) (c, le, rd, ln, vi, a1, a2, a3, a4, a5, a6, a7, a8, a9, a10, a11, a12, a13, a14, a15, a16, a17, a18)) : wpX_setRegister post (c, le, rd, ln, vi, a1, a2, a3, a4, a5, a6, a7, a8, a9, a10, a11, a12, a13, a14, a15, a16, a17, a18) p q := by
  unfold wpX_setRegister
  dsimp only
  exact sl_badReg (fun z => br_t rfl ⟨z, nm_e (h0 z)⟩) (fun z => br_f sl_1n0 (h1 z))
theorem sl_setWord {post : Int32 → St2 → Prop} {p q : Int32} {c le rd ln vi : Int32} {a1 a2 a3 a4 a5 a6 a7 a8 a9 a10 a11 a12 a13 a14 a15 a16 a17 a18 : Nat → Int32} (h0 : vp_in p 16 → post 0 (c, le, rd, ln, vi, a1, a2, a3, a4, a5, a6, upd a7 p.toNatClampNeg q, a8, a9, a10, a11, a12, a13, a14, a15, a16, a17, a18)) (h1 : ¬ vp_in p 16 → post (-1) (c, le, rd, ln, vi, a1, a2, a3, a4, a5, a6, a7, a8, a9, a10, a11, a12, a13, a14, a15, a16, a17, a18)) : wpX_setWord post (c, le, rd, ln, vi, a1, a2, a3, a4, a5, a6, a7, a8, a9, a10, a11, a12, a13, a14, a15, a16, a17, a18) p q := by
  unfold wpX_setWord
  dsimp only
  exact sl_badAddress (fun z => br_t rfl ⟨z, nm_e (h0 z)⟩) (fun z => br_f sl_1n0 (h1 z))
theorem sl_bar {post : Int32 → St2 → Prop} {p q : Int32} {c le rd ln vi : Int32} {a1 a2 a3 a4 a5 a6 a7 a8 a9 a10 a11 a12 a13 a14 a15 a16 a17 a18 : Nat → Int32} (h8 : ∀ j, a8 j = 0) (h0 : vp_in p 16 → ∀ b : Int32, (b = 0 ↔ q = 0) → post 0 (c, le, rd, ln, vi, a1, a2, a3, a4, a5, a6, a7, upd a8 p.toNatClampNeg b, a9, a10, a11, a12, a13, a14, a15, a16, a17, a18)) (h1 : ¬ vp_in p 16 → post (-1) (c, le, rd, ln, vi, a1, a2, a3, a4, a5, a6, a7, a8, a9, a10, a11, a12, a13, a14, a15, a16, a17, a18)) : wpX_bar post (c, le, rd, ln, vi, a1, a2, a3, a4, a5, a6, a7, a8, a9, a10, a11, a12, a13, a14, a15, a16, a17, a18) p q := by
  unfold wpX_bar
  dsimp only
  exact sl_badAddress (fun z => br_t rfl ⟨z, br_t (h8 _) (br_c (fun y => ⟨z, nm_e (h0 z 0 ⟨fun _ => y, fun _ => rfl⟩)⟩) (fun y => ⟨z, nm_e (h0 z 1 ⟨fun t => absurd t sl_1n0, fun t => absurd t y⟩)⟩))⟩) (fun z => br_f sl_1n0 (h1 z))
theorem sl_append0 {post : Int32 → St2 → Prop} {p0 p1 p2 p3 p4 : Int32} {le rd ln vi : Int32} {a1 a2 a3 a4 a5 a6 a7 a8 a9 a10 a11 a12 a13 a14 a15 a16 a17 a18 : Nat → Int32} (h : post 0 (1, le, 0, ln, vi, upd a1 0 p0, upd a2 0 p1, upd a3 0 p2, upd a4 0 p3, upd a5 0 p4, a6, a7, a8, a9, a10, a11, a12, a13, a14, a15, a16, a17, a18)) : wpX_append post (0, le, rd, ln, vi, a1, a2, a3, a4, a5, a6, a7, a8, a9, a10, a11, a12, a13, a14, a15, a16, a17, a18) p0 p1 p2 p3 p4 :=
  br_f (by decide) ⟨pk_in 0 14 (by omega), nm_r (by rw [sl_c0]) ⟨pk_in 0 14 (by omega), nm_r (by rw [sl_c0]) ⟨pk_in 0 14 (by omega), nm_r (by rw [sl_c0]) ⟨pk_in 0 14 (by omega), nm_r (by rw [sl_c0]) ⟨pk_in 0 14 (by omega), nm_r (by rw [sl_c0]) (nm_r (e' := (1 : Int32)) (by decide) h)⟩⟩⟩⟩⟩
theorem sl_load {post : Int32 → St2 → Prop} {p q : Int32} {le rd ln vi : Int32} {a1 a2 a3 a4 a5 a6 a7 a8 a9 a10 a11 a12 a13 a14 a15 a16 a17 a18 : Nat → Int32}
    (h0 : vp_in p 8 → ¬ q < (-8) → ¬ 15 < q → post 0 (1, le, 0, ln, vi, upd a1 0 3, upd a2 0 p, upd a3 0 p, upd a4 0 (-1), upd a5 0 q, a6, a7, a8, a9, a10, a11, a12, a13, a14, a15, a16, a17, a18))
    (h1 : ¬ (vp_in p 8 ∧ ¬ q < (-8) ∧ ¬ 15 < q) → post (-1) (0, le, rd, ln, vi, a1, a2, a3, a4, a5, a6, a7, a8, a9, a10, a11, a12, a13, a14, a15, a16, a17, a18)) : wpX_load post (0, le, rd, ln, vi, a1, a2, a3, a4, a5, a6, a7, a8, a9, a10, a11, a12, a13, a14, a15, a16, a17, a18) p p q := by
  unfold wpX_load
  dsimp only
  refine sl_badReg (fun z => br_t rfl (sl_badReg (fun _ => br_t rfl (br_c (fun y => h1 (fun t => t.2.1 y)) (fun y => br_c (fun w => sl_append0 (h0 z y (fun t => sl_nle.mpr t w))) (fun w => h1 (fun t => t.2.2 (sl_nle.mp w)))))) (fun t => absurd z t))) (fun z => br_f sl_1n0 (h1 (fun t => z t.1)))
theorem sl_last {post : Int32 → Prop} {c le rd ln vi : Int32} {a1 a2 a3 a4 a5 a6 a7 a8 a9 a10 a11 a12 a13 a14 a15 a16 a17 a18 : Nat → Int32} (h : post le) : wpX_last post (c, le, rd, ln, vi, a1, a2, a3, a4, a5, a6, a7, a8, a9, a10, a11, a12, a13, a14, a15, a16, a17, a18) := h
theorem sl_register {post : Int32 → Prop} {p : Int32} {c le rd ln vi : Int32} {a1 a2 a3 a4 a5 a6 a7 a8 a9 a10 a11 a12 a13 a14 a15 a16 a17 a18 : Nat → Int32} (h0 : vp_in p 8 → post (a6 p.toNatClampNeg)) (h1 : ¬ vp_in p 8 → post 0) : wpX_register post (c, le, rd, ln, vi, a1, a2, a3, a4, a5, a6, a7, a8, a9, a10, a11, a12, a13, a14, a15, a16, a17, a18) p := by
  unfold wpX_register
  dsimp only
  exact sl_badReg (fun z => br_t rfl ⟨z, h0 z⟩) (fun z => br_f sl_1n0 (h1 z))
theorem sl_word {post : Int32 → Prop} {p : Int32} {c le rd ln vi : Int32} {a1 a2 a3 a4 a5 a6 a7 a8 a9 a10 a11 a12 a13 a14 a15 a16 a17 a18 : Nat → Int32} (h0 : vp_in p 16 → post (a7 p.toNatClampNeg)) (h1 : ¬ vp_in p 16 → post 0) : wpX_word post (c, le, rd, ln, vi, a1, a2, a3, a4, a5, a6, a7, a8, a9, a10, a11, a12, a13, a14, a15, a16, a17, a18) p := by
  unfold wpX_word
  dsimp only
  exact sl_badAddress (fun z => br_t rfl ⟨z, h0 z⟩) (fun z => br_f sl_1n0 (h1 z))
end
section
/-! orderAll: the clearing loop, then no instruction or one load -/
theorem sl_upl {f : Nat → Int32} {i : Nat} {x : Int32} (hi : i < 28) (h : ∀ j, j < i → f j = x) : ∀ j, j < i + 1 → upd f (nI i).toNatClampNeg x j = x := by
  intro j hj
  rw [nI_clamp (by omega)]
  by_cases e : j = i
  · rw [e, pk_us]
  · rw [pk_un e]
    exact h j (by omega)
theorem sl_ord2 {post : St2 → Prop} {c le rd ln vi : Int32} {a1 a2 a3 a4 a5 a6 a7 a8 a9 a10 a11 a12 a13 a14 a15 a16 a17 a18 : Nat → Int32}
    (H : ∀ b9 b10 b11 b12 : Nat → Int32, (∀ j, j < 28 → b9 j = 0) → (∀ j, j < 28 → b10 j = 0) → (∀ j, j < 28 → b12 j = -1) → ∃ fu, wX_orderAll_44 post fu 0 c le rd ln vi a1 a2 a3 a4 a5 a6 a7 a8 b9 b10 b11 b12 a13 a14 a15 a16 a17 a18) :
    wpX_orderAll post (c, le, rd, ln, vi, a1, a2, a3, a4, a5, a6, a7, a8, a9, a10, a11, a12, a13, a14, a15, a16, a17, a18) :=
  pk_loop (fun n i (s : (Nat → Int32) × (Nat → Int32) × (Nat → Int32) × (Nat → Int32)) => wX_orderAll_2 post c le rd ln vi n (nI i) a1 a2 a3 a4 a5 a6 a7 a8 s.1 s.2.1 s.2.2.1 s.2.2.2 a13 a14 a15 a16 a17 a18)
    (fun i s => (∀ j, j < i → s.1 j = 0) ∧ (∀ j, j < i → s.2.1 j = 0) ∧ (∀ j, j < i → s.2.2.2 j = -1)) 28 0 (a9, a10, a11, a12) (by omega)
    ⟨fun j hj => absurd hj (by omega), fun j hj => absurd hj (by omega), fun j hj => absurd hj (by omega)⟩
    (fun n s h => pk_le 28 28 (fun _ => H s.1 s.2.1 s.2.2.1 s.2.2.2 h.1 h.2.1 h.2.2) (fun z => absurd z (by omega)))
    (fun n i s hi h hw => pk_le 28 i (fun z => absurd z (by omega)) (fun _ => ⟨pk_in i 28 hi, nm_e ⟨pk_in i 28 hi, nm_e ⟨pk_in i 28 hi, nm_e ⟨pk_in i 28 hi, nm_e (nm_r (nI_1 i)
      (hw (upd s.1 (nI i).toNatClampNeg 0, upd s.2.1 (nI i).toNatClampNeg 0, upd s.2.2.1 (nI i).toNatClampNeg 0, upd s.2.2.2 (nI i).toNatClampNeg (-1)) ⟨sl_upl hi h.1, sl_upl hi h.2.1, sl_upl hi h.2.2⟩))⟩⟩⟩⟩))
/-- no instruction -/
theorem sl_ordN {post : St2 → Prop} {le rd ln vi : Int32} {a1 a2 a3 a4 a5 a6 a7 a8 a9 a10 a11 a12 a13 a14 a15 a16 a17 a18 : Nat → Int32}
    (H : ∀ b9 b10 b11 b12 : Nat → Int32, (∀ j, j < 28 → b9 j = 0) → post (0, le, rd, ln, vi, a1, a2, a3, a4, a5, a6, a7, a8, b9, b10, b11, b12, a13, a14, a15, a16, a17, a18)) :
    wpX_orderAll post (0, le, rd, ln, vi, a1, a2, a3, a4, a5, a6, a7, a8, a9, a10, a11, a12, a13, a14, a15, a16, a17, a18) :=
  sl_ord2 (fun b9 b10 b11 b12 h9 _ _ => ⟨1, br_t (by decide) (H b9 b10 b11 b12 h9)⟩)
theorem sl_writer0 {post : Int32 → Prop} {p : Int32} {c le rd ln vi : Int32} {a1 a2 a3 a4 a5 a6 a7 a8 a9 a10 a11 a12 a13 a14 a15 a16 a17 a18 : Nat → Int32} (h : post (-1)) : wpX_writerBefore post (c, le, rd, ln, vi, a1, a2, a3, a4, a5, a6, a7, a8, a9, a10, a11, a12, a13, a14, a15, a16, a17, a18) 0 p :=
  ⟨1, br_t (by decide) h⟩
theorem sl_put0 {post : St2 → Prop} {c le rd ln vi : Int32} {a1 a2 a3 a4 a5 a6 a7 a8 a9 a10 a11 a12 a13 a14 a15 a16 a17 a18 : Nat → Int32} (h10 : a10 0 = 0) (H : post (c, le, rd, ln, vi, a1, a2, a3, a4, a5, a6, a7, a8, upd a9 14 1, upd a10 0 16384, a11, a12, a13, upd a14 0 (-1), a15, a16, a17, a18)) : wpX_putForward post (c, le, rd, ln, vi, a1, a2, a3, a4, a5, a6, a7, a8, a9, a10, a11, a12, a13, a14, a15, a16, a17, a18) 0 := by
  unfold wpX_putForward
  dsimp only
  refine nm_r (e' := nI 14) (by decide) ⟨pk_in 14 28 (by omega), nm_r (e' := upd a9 14 1) (by rw [nI_clamp (by omega)]) ⟨pk_in 0 28 (by omega), pk_in 0 28 (by omega), nm_r (e' := upd a10 0 16384) (by rw [sl_c0, h10, sl_or]) ⟨pk_in 0 14 (by omega), nm_r (e' := upd a14 0 (-1)) (by rw [sl_c0]) ⟨pk_in 0 14 (by omega), sl_writer0 ?_⟩⟩⟩⟩
  exact br_t sl_m1n (br_t sl_m1n H)
/-- the places used, and what each waits for -/
def sl_U (b9 b10 : Nat → Int32) : Prop := b9 0 = 1 ∧ b9 14 = 1 ∧ (∀ j, j < 28 → j ≠ 0 → j ≠ 14 → b9 j = 0) ∧ b10 0 = 16384 ∧ b10 14 = 0
/-- one instruction, a load -/
theorem sl_ord1 {post : St2 → Prop} {le rd ln vi : Int32} {a1 a2 a3 a4 a5 a6 a7 a8 a9 a10 a11 a12 a13 a14 a15 a16 a17 a18 : Nat → Int32} (h1 : a1 0 = 3)
    (H : ∀ b9 b10 b11 b12 : Nat → Int32, sl_U b9 b10 → b12 0 = -1 → b12 14 = -1 → post (1, le, rd, ln, vi, a1, a2, a3, a4, a5, a6, a7, a8, b9, b10, b11, b12, a13, upd a14 0 (-1), a15, a16, a17, a18)) :
    wpX_orderAll post (1, le, rd, ln, vi, a1, a2, a3, a4, a5, a6, a7, a8, a9, a10, a11, a12, a13, a14, a15, a16, a17, a18) := by
  refine sl_ord2 (fun b9 b10 b11 b12 h9 h10 h12 => ⟨2, br_f (by decide) ⟨pk_in 0 28 (by omega), nm_r (e' := upd b9 0 1) (by rw [sl_c0]) ⟨1, br_t (by decide) ⟨pk_in 0 14 (by omega), br_t (by rw [sl_c0]; exact h1) (sl_put0 (h10 0 (by omega)) ?_)⟩⟩⟩⟩)
  refine nm_r (e' := (1 : Int32)) (by decide) (br_t (by decide) (H (upd (upd b9 0 1) 14 1) (upd b10 0 16384) b11 b12 ⟨?_, pk_us, ?_, pk_us, ?_⟩ (h12 0 (by omega)) (h12 14 (by omega))))
  · rw [pk_un (by omega), pk_us]
  · intro j hj n0 n14
    rw [pk_un n14, pk_un n0]
    exact h9 j hj
  · rw [pk_un (by omega)]
    exact h10 14 (by omega)
end
section
/-! heights: any numbers will do -/
theorem sl_height {post : Int32 → Prop} {p : Int32} {c le rd ln vi : Int32} {a1 a2 a3 a4 a5 a6 a7 a8 a9 a10 a11 a12 a13 a14 a15 a16 a17 a18 : Nat → Int32} (H : ∀ r, post r) : wpX_heightOf post (c, le, rd, ln, vi, a1, a2, a3, a4, a5, a6, a7, a8, a9, a10, a11, a12, a13, a14, a15, a16, a17, a18) p :=
  pk_loop (fun n i (s : Int32) => wX_heightOf_4 post p c le rd ln vi a1 a2 a3 a4 a5 a6 a7 a8 a9 a10 a11 a12 a13 a14 a15 a16 a17 a18 n s (nI i)) (fun _ _ => True) 28 0 0 (by omega) trivial
    (fun n s _ => pk_le 28 28 (fun _ => br_c (fun _ => H _) (fun _ => H _)) (fun z => absurd z (by omega)))
    (fun n i s hi _ hw => pk_le 28 i (fun z => absurd z (by omega)) (fun _ => ⟨pk_in i 28 hi,
      br_c (fun _ => nm_r (nI_1 i) (hw s trivial)) (fun _ => ⟨pk_in i 28 hi,
        br_c (fun _ => ⟨pk_in i 28 hi, br_c (fun _ => nm_r (nI_1 i) (hw s trivial)) (fun _ => ⟨pk_in i 28 hi, nm_e (nm_r (nI_1 i) (hw _ trivial))⟩)⟩)
          (fun _ => nm_r (nI_1 i) (hw s trivial))⟩)⟩))
theorem sl_meas10 {post : St2 → Prop} {r : Nat} {c le rd ln vi : Int32} {a1 a2 a3 a4 a5 a6 a7 a8 a9 a10 a11 a12 a13 a14 a15 a16 a17 a18 : Nat → Int32}
    {J : Int32 → (Nat → Int32) → (Nat → Int32) → (Nat → Int32) → (Nat → Int32) → (Nat → Int32) → (Nat → Int32) → (Nat → Int32) → (Nat → Int32) → (Nat → Int32) → (Nat → Int32) → (Nat → Int32) → (Nat → Int32) → (Nat → Int32) → (Nat → Int32) → (Nat → Int32) → (Nat → Int32) → (Nat → Int32) → (Nat → Int32) → Prop}
    (H : ∀ s, J (nI (r + 1)) a1 a2 a3 a4 a5 a6 a7 a8 a9 a10 s a12 a13 a14 a15 a16 a17 a18) : ∃ n, wX_measure_10 post J (nI r) c le rd ln vi n 0 a1 a2 a3 a4 a5 a6 a7 a8 a9 a10 a11 a12 a13 a14 a15 a16 a17 a18 :=
  pk_loop (fun n i (s : Nat → Int32) => wX_measure_10 post J (nI r) c le rd ln vi n (nI i) a1 a2 a3 a4 a5 a6 a7 a8 a9 a10 s a12 a13 a14 a15 a16 a17 a18) (fun _ _ => True) 28 0 a11 (by omega) trivial
    (fun n s _ => pk_le 28 28 (fun _ => nm_r (nI_1 r) (H s)) (fun z => absurd z (by omega)))
    (fun n i s hi _ hw => pk_le 28 i (fun z => absurd z (by omega)) (fun _ => ⟨pk_in i 28 hi,
      br_c (fun _ => nm_r (nI_1 i) (hw s trivial)) (fun _ => sl_height (fun r => ⟨pk_in i 28 hi, nm_e (nm_r (nI_1 i) (hw _ trivial))⟩))⟩))
theorem sl_meas {post : St2 → Prop} {c le rd ln vi : Int32} {a1 a2 a3 a4 a5 a6 a7 a8 a9 a10 a11 a12 a13 a14 a15 a16 a17 a18 : Nat → Int32} (H : ∀ s, post (c, le, rd, ln, vi, a1, a2, a3, a4, a5, a6, a7, a8, a9, a10, s, a12, a13, a14, a15, a16, a17, a18)) : wpX_measure post (c, le, rd, ln, vi, a1, a2, a3, a4, a5, a6, a7, a8, a9, a10, a11, a12, a13, a14, a15, a16, a17, a18) :=
  pk_loop (fun n i (s : Nat → Int32) => wX_measure_2 post c le rd ln vi n (nI i) a1 a2 a3 a4 a5 a6 a7 a8 a9 a10 s a12 a13 a14 a15 a16 a17 a18) (fun _ _ => True) 28 0 a11 (by omega) trivial
    (fun n s _ => pk_le 28 28 (fun _ => H s) (fun z => absurd z (by omega)))
    (fun n i s hi _ hw => pk_le 28 i (fun z => absurd z (by omega)) (fun _ => sl_meas10 (fun t => hw t trivial)))
/-! mayIssue -/
theorem sl_mayU {post : Int32 → Prop} {y : Int32} {k : Nat} {c le rd ln vi : Int32} {a1 a2 a3 a4 a5 a6 a7 a8 a9 a10 a11 a12 a13 a14 a15 a16 a17 a18 : Nat → Int32} (hk : k < 28) (h : a9 k = 0) (H : post 0) : wpX_mayIssue post (c, le, rd, ln, vi, a1, a2, a3, a4, a5, a6, a7, a8, a9, a10, a11, a12, a13, a14, a15, a16, a17, a18) (nI k) y :=
  ⟨pk_in k 28 hk, br_t (by rw [nI_clamp (by omega)]; exact h) H⟩
theorem sl_mayD {post : Int32 → Prop} {y : Int32} {k : Nat} {c le rd ln vi : Int32} {a1 a2 a3 a4 a5 a6 a7 a8 a9 a10 a11 a12 a13 a14 a15 a16 a17 a18 : Nat → Int32} (hk : k < 28) (h : ¬ a9 k = 0) (h2 : ¬ a12 k < 0) (H : post 0) : wpX_mayIssue post (c, le, rd, ln, vi, a1, a2, a3, a4, a5, a6, a7, a8, a9, a10, a11, a12, a13, a14, a15, a16, a17, a18) (nI k) y :=
  ⟨pk_in k 28 hk, br_f (by rw [nI_clamp (by omega)]; exact h) ⟨pk_in k 28 hk, br_f (by rw [nI_clamp (by omega)]; exact h2) H⟩⟩
/-- it waits for nothing -/
theorem sl_mayF {post : Int32 → Prop} {y : Int32} {k : Nat} {c le rd ln vi : Int32} {a1 a2 a3 a4 a5 a6 a7 a8 a9 a10 a11 a12 a13 a14 a15 a16 a17 a18 : Nat → Int32} (hk : k < 28) (h : ¬ a9 k = 0) (h2 : a12 k < 0) (h10 : a10 k = 0) (H : post 1) : wpX_mayIssue post (c, le, rd, ln, vi, a1, a2, a3, a4, a5, a6, a7, a8, a9, a10, a11, a12, a13, a14, a15, a16, a17, a18) (nI k) y :=
  ⟨pk_in k 28 hk, br_f (by rw [nI_clamp (by omega)]; exact h) ⟨pk_in k 28 hk, br_t (by rw [nI_clamp (by omega)]; exact h2)
    (pk_loop (σ := Unit) (fun n i _ => wX_mayIssue_25 post (nI k) y c le rd ln vi a1 a2 a3 a4 a5 a6 a7 a8 a9 a10 a11 a12 a13 a14 a15 a16 a17 a18 n 1 (nI i)) (fun _ _ => True) 28 0 () (by omega) trivial
      (fun n _ _ => pk_le 28 28 (fun _ => ⟨sl_nb1, H⟩) (fun z => absurd z (by omega)))
      (fun n i _ hi _ hw => pk_le 28 i (fun z => absurd z (by omega)) (fun _ => ⟨pk_in k 28 hk, br_f (by rw [nI_clamp (by omega), h10]; exact sl_bit0 i hi) (nm_r (nI_1 i) (hw () trivial))⟩)))⟩⟩
/-- it waits for place 14: what the loop keeps -/
def sl_at14 (d : Int32) (i : Nat) (s : Int32) : Prop := (i ≤ 14 ∧ s = 1) ∨ (14 < i ∧ s = d)
theorem sl_at14s {d : Int32} {i : Nat} {s : Int32} (h : sl_at14 d i s) (n : i ≠ 14) : sl_at14 d (i + 1) s := by
  rcases h with ⟨h, e⟩ | ⟨h, e⟩
  · exact Or.inl ⟨by omega, e⟩
  · exact Or.inr ⟨by omega, e⟩
theorem sl_at14e {d s : Int32} (h : sl_at14 d 28 s) : s = d := by
  rcases h with ⟨h, e⟩ | ⟨h, e⟩
  · exact absurd h (by omega)
  · exact e
theorem sl_at14o {d s : Int32} (h : sl_at14 d 14 s) : s = 1 := by
  rcases h with ⟨h, e⟩ | ⟨h, e⟩
  · exact e
  · exact absurd h (by omega)
theorem sl_mayW {post : Int32 → Prop} {y d : Int32} {k : Nat} {c le rd ln vi : Int32} {a1 a2 a3 a4 a5 a6 a7 a8 a9 a10 a11 a12 a13 a14 a15 a16 a17 a18 : Nat → Int32} (hk : k < 28) (h : ¬ a9 k = 0) (h2 : a12 k < 0) (h10 : a10 k = 16384)
    (hd : (d = 0 ∧ (a12 14 < 0 ∨ (¬ a12 14 < 0 ∧ y < a12 14 + 3))) ∨ (d = 1 ∧ ¬ a12 14 < 0 ∧ ¬ y < a12 14 + 3)) (H : post d) : wpX_mayIssue post (c, le, rd, ln, vi, a1, a2, a3, a4, a5, a6, a7, a8, a9, a10, a11, a12, a13, a14, a15, a16, a17, a18) (nI k) y := by
  refine ⟨pk_in k 28 hk, br_f (by rw [nI_clamp (by omega)]; exact h) ⟨pk_in k 28 hk, br_t (by rw [nI_clamp (by omega)]; exact h2)
    (pk_loop (fun n i s => wX_mayIssue_25 post (nI k) y c le rd ln vi a1 a2 a3 a4 a5 a6 a7 a8 a9 a10 a11 a12 a13 a14 a15 a16 a17 a18 n s (nI i)) (sl_at14 d) 28 0 1 (by omega) (Or.inl ⟨by omega, rfl⟩)
      (fun n s hs => ?_) (fun n i s hi hs hw => ?_))⟩⟩
  · have e := sl_at14e hs
    subst e
    refine pk_le 28 28 (fun _ => ⟨?_, H⟩) (fun z => absurd z (by omega))
    rcases hd with ⟨e, _⟩ | ⟨e, _⟩
    · rw [e]; exact sl_nb0
    · rw [e]; exact sl_nb1
  · refine pk_le 28 i (fun z => absurd z (by omega)) (fun _ => ⟨pk_in k 28 hk, ?_⟩)
    by_cases e : i = 14
    · subst e
      have e1 := sl_at14o hs
      subst e1
      have c14 : (nI 14).toNatClampNeg = 14 := nI_clamp (by omega)
      have q : wX_mayIssue_25 post (nI k) y c le rd ln vi a1 a2 a3 a4 a5 a6 a7 a8 a9 a10 a11 a12 a13 a14 a15 a16 a17 a18 n d (nI (14 + 1)) := hw d (Or.inr ⟨by omega, rfl⟩)
      refine br_t (by rw [nI_clamp (by omega), h10]; exact sl_bitY) ⟨pk_in 14 28 (by omega), ?_⟩
      rw [c14]
      rcases hd with ⟨ed, hb | ⟨hn, hb⟩⟩ | ⟨ed, hn, hb⟩
      · subst ed
        exact br_t hb (br_f sl_1n0 (br_t rfl (nm_r (nI_1 14) q)))
      · subst ed
        exact br_f hn ⟨pk_in 14 28 (by omega), br_f (show ¬ nI 14 < 14 by decide) (br_t hb (br_f sl_1n0 (br_t rfl (nm_r (nI_1 14) q))))⟩
      · subst ed
        exact br_f hn ⟨pk_in 14 28 (by omega), br_f (show ¬ nI 14 < 14 by decide) (br_f hb (br_f sl_1n0 (br_f sl_1n0 (nm_r (nI_1 14) q))))⟩
    · exact br_f (by rw [nI_clamp (by omega), h10]; exact sl_bitN i hi e) (nm_r (nI_1 i) (hw s (sl_at14s hs e)))
/-! issueOne: none, or place k alone -/
theorem sl_issN {post : St2 → Prop} {y : Int32} {c le rd ln vi : Int32} {a1 a2 a3 a4 a5 a6 a7 a8 a9 a10 a11 a12 a13 a14 a15 a16 a17 a18 : Nat → Int32} (hM : ∀ k, k < 28 → ∀ q : Int32 → Prop, q 0 → wpX_mayIssue q (c, le, rd, ln, vi, a1, a2, a3, a4, a5, a6, a7, a8, a9, a10, a11, a12, a13, a14, a15, a16, a17, a18) (nI k) y) (H : post (c, le, rd, ln, vi, a1, a2, a3, a4, a5, a6, a7, a8, a9, a10, a11, a12, a13, a14, a15, a16, a17, a18)) : wpX_issueOne post (c, le, rd, ln, vi, a1, a2, a3, a4, a5, a6, a7, a8, a9, a10, a11, a12, a13, a14, a15, a16, a17, a18) y :=
  pk_loop (σ := Unit) (fun n i _ => wX_issueOne_4 post y c le rd ln vi a1 a2 a3 a4 a5 a6 a7 a8 a9 a10 a11 a12 a13 a14 a15 a16 a17 a18 n (-1) (nI i)) (fun _ _ => True) 28 0 () (by omega) trivial
    (fun n _ _ => pk_le 28 28 (fun _ => br_t sl_m1n H) (fun z => absurd z (by omega)))
    (fun n i _ hi _ hw => pk_le 28 i (fun z => absurd z (by omega)) (fun _ => hM i hi _ (br_t rfl (nm_r (nI_1 i) (hw () trivial)))))
def sl_best (k i : Nat) (s : Int32) : Prop := (i ≤ k ∧ s = -1) ∨ (k < i ∧ s = nI k)
theorem sl_issK {post : St2 → Prop} {y : Int32} {k l : Nat} {c le rd vi : Int32} {a1 a2 a3 a4 a5 a6 a7 a8 a9 a10 a11 a12 a13 a14 a15 a16 a17 a18 : Nat → Int32} (hk : k < 28) (hl : l < 28) (hM : ∀ i, i < 28 → i ≠ k → ∀ q : Int32 → Prop, q 0 → wpX_mayIssue q (c, le, rd, nI l, vi, a1, a2, a3, a4, a5, a6, a7, a8, a9, a10, a11, a12, a13, a14, a15, a16, a17, a18) (nI i) y) (hM1 : ∀ q : Int32 → Prop, q 1 → wpX_mayIssue q (c, le, rd, nI l, vi, a1, a2, a3, a4, a5, a6, a7, a8, a9, a10, a11, a12, a13, a14, a15, a16, a17, a18) (nI k) y)
    (H : post (c, le, rd, nI (l + 1), vi, a1, a2, a3, a4, a5, a6, a7, a8, a9, a10, a11, upd a12 k y, upd a13 l (nI k), a14, a15, a16, a17, a18)) : wpX_issueOne post (c, le, rd, nI l, vi, a1, a2, a3, a4, a5, a6, a7, a8, a9, a10, a11, a12, a13, a14, a15, a16, a17, a18) y := by
  refine pk_loop (fun n i s => wX_issueOne_4 post y c le rd (nI l) vi a1 a2 a3 a4 a5 a6 a7 a8 a9 a10 a11 a12 a13 a14 a15 a16 a17 a18 n s (nI i)) (sl_best k) 28 0 (-1) (by omega) (Or.inl ⟨by omega, rfl⟩) (fun n s hs => ?_) (fun n i s hi hs hw => ?_)
  · have e : s = nI k := by
      rcases hs with ⟨h, e⟩ | ⟨h, e⟩
      · exact absurd h (by omega)
      · exact e
    subst e
    exact pk_le 28 28 (fun _ => br_f (nI_pos (by omega)) ⟨pk_in k 28 hk, nm_r (by rw [nI_clamp (by omega)]) ⟨pk_in l 28 hl, nm_r (by rw [nI_clamp (by omega)]) (nm_r (nI_1 l) H)⟩⟩) (fun z => absurd z (by omega))
  · refine pk_le 28 i (fun z => absurd z (by omega)) (fun _ => ?_)
    by_cases e : i = k
    · subst e
      have e1 : s = -1 := by
        rcases hs with ⟨h, e⟩ | ⟨h, e⟩
        · exact e
        · exact absurd h (by omega)
      subst e1
      exact hM1 _ (br_f sl_1n0 (br_t sl_m1n (nm_r (nI_1 i) (hw (nI i) (Or.inr ⟨by omega, rfl⟩)))))
    · refine hM i hi e _ (br_t rfl (nm_r (nI_1 i) (hw s ?_)))
      rcases hs with ⟨h, e⟩ | ⟨h, e⟩
      · exact Or.inl ⟨by omega, e⟩
      · exact Or.inr ⟨by omega, e⟩
end
section
/-! the three states of the schedule: nothing issued, 14 issued at 0, 0 issued at 3 -/
theorem sl_isA {post : St2 → Prop} {c le rd vi : Int32} {a1 a2 a3 a4 a5 a6 a7 a8 a9 a10 a11 a12 a13 a14 a15 a16 a17 a18 : Nat → Int32} (hU : sl_U a9 a10) (h0 : a12 0 = -1) (h14 : a12 14 = -1) (H : post (c, le, rd, nI 1, vi, a1, a2, a3, a4, a5, a6, a7, a8, a9, a10, a11, upd a12 14 0, upd a13 0 (nI 14), a14, a15, a16, a17, a18)) : wpX_issueOne post (c, le, rd, nI 0, vi, a1, a2, a3, a4, a5, a6, a7, a8, a9, a10, a11, a12, a13, a14, a15, a16, a17, a18) 0 := by
  obtain ⟨u0, u14, uo, w0, w14⟩ := hU
  refine sl_issK (k := 14) (l := 0) (by omega) (by omega) (fun i hi n q hq => ?_) (fun q hq => ?_) H
  · by_cases e : i = 0
    · subst e
      exact sl_mayW hi (by rw [u0]; exact sl_1n0) (by rw [h0]; exact sl_m1n) w0 (Or.inl ⟨rfl, Or.inl (by rw [h14]; exact sl_m1n)⟩) hq
    · exact sl_mayU hi (uo i hi e n) hq
  · exact sl_mayF (by omega) (by rw [u14]; exact sl_1n0) (by rw [h14]; exact sl_m1n) w14 hq
theorem sl_isB {post : St2 → Prop} {i : Nat} {c le rd ln vi : Int32} {a1 a2 a3 a4 a5 a6 a7 a8 a9 a10 a11 a12 a13 a14 a15 a16 a17 a18 : Nat → Int32} (hi : i < 3) (hU : sl_U a9 a10) (h0 : a12 0 = -1) (h14 : a12 14 = 0) (H : post (c, le, rd, ln, vi, a1, a2, a3, a4, a5, a6, a7, a8, a9, a10, a11, a12, a13, a14, a15, a16, a17, a18)) : wpX_issueOne post (c, le, rd, ln, vi, a1, a2, a3, a4, a5, a6, a7, a8, a9, a10, a11, a12, a13, a14, a15, a16, a17, a18) (nI i) := by
  obtain ⟨u0, u14, uo, w0, w14⟩ := hU
  refine sl_issN (fun k hk q hq => ?_) H
  by_cases e : k = 0
  · subst e
    refine sl_mayW hk (by rw [u0]; exact sl_1n0) (by rw [h0]; exact sl_m1n) w0 (Or.inl ⟨rfl, Or.inr ⟨by rw [h14]; decide, ?_⟩⟩) hq
    rw [h14]
    exact nI_lt (a := i) (b := 3) hi (by omega)
  · by_cases e2 : k = 14
    · subst e2
      exact sl_mayD hk (by rw [u14]; exact sl_1n0) (by rw [h14]; decide) hq
    · exact sl_mayU hk (uo k hk e e2) hq
theorem sl_isB3 {post : St2 → Prop} {c le rd vi : Int32} {a1 a2 a3 a4 a5 a6 a7 a8 a9 a10 a11 a12 a13 a14 a15 a16 a17 a18 : Nat → Int32} (hU : sl_U a9 a10) (h0 : a12 0 = -1) (h14 : a12 14 = 0) (H : post (c, le, rd, nI 2, vi, a1, a2, a3, a4, a5, a6, a7, a8, a9, a10, a11, upd a12 0 (nI 3), upd a13 1 (nI 0), a14, a15, a16, a17, a18)) : wpX_issueOne post (c, le, rd, nI 1, vi, a1, a2, a3, a4, a5, a6, a7, a8, a9, a10, a11, a12, a13, a14, a15, a16, a17, a18) (nI 3) := by
  obtain ⟨u0, u14, uo, w0, w14⟩ := hU
  refine sl_issK (k := 0) (l := 1) (by omega) (by omega) (fun i hi n q hq => ?_) (fun q hq => ?_) H
  · by_cases e : i = 14
    · subst e
      exact sl_mayD hi (by rw [u14]; exact sl_1n0) (by rw [h14]; decide) hq
    · exact sl_mayU hi (uo i hi n e) hq
  · refine sl_mayW (by omega) (by rw [u0]; exact sl_1n0) (by rw [h0]; exact sl_m1n) w0 (Or.inr ⟨rfl, by rw [h14]; decide, ?_⟩) hq
    rw [h14]
    decide
theorem sl_isC {post : St2 → Prop} {y : Int32} {c le rd ln vi : Int32} {a1 a2 a3 a4 a5 a6 a7 a8 a9 a10 a11 a12 a13 a14 a15 a16 a17 a18 : Nat → Int32} (hU : sl_U a9 a10) (h0 : a12 0 = nI 3) (h14 : a12 14 = 0) (H : post (c, le, rd, ln, vi, a1, a2, a3, a4, a5, a6, a7, a8, a9, a10, a11, a12, a13, a14, a15, a16, a17, a18)) : wpX_issueOne post (c, le, rd, ln, vi, a1, a2, a3, a4, a5, a6, a7, a8, a9, a10, a11, a12, a13, a14, a15, a16, a17, a18) y := by
  obtain ⟨u0, u14, uo, w0, w14⟩ := hU
  refine sl_issN (fun k hk q hq => ?_) H
  by_cases e : k = 0
  · subst e
    exact sl_mayD hk (by rw [u0]; exact sl_1n0) (by rw [h0]; decide) hq
  · by_cases e2 : k = 14
    · subst e2
      exact sl_mayD hk (by rw [u14]; exact sl_1n0) (by rw [h14]; decide) hq
    · exact sl_mayU hk (uo k hk e e2) hq
/-- what the loop over the cycles keeps: length, issuedAt, order -/
def sl_K (i : Nat) (s : Int32 × (Nat → Int32) × (Nat → Int32)) : Prop :=
  (i = 0 ∧ s.1 = nI 0 ∧ s.2.1 0 = -1 ∧ s.2.1 14 = -1) ∨
  (1 ≤ i ∧ i ≤ 3 ∧ s.1 = nI 1 ∧ s.2.1 0 = -1 ∧ s.2.1 14 = 0 ∧ s.2.2 0 = nI 14) ∨
  (4 ≤ i ∧ s.1 = nI 2 ∧ s.2.1 0 = nI 3 ∧ s.2.1 14 = 0 ∧ s.2.2 0 = nI 14 ∧ s.2.2 1 = nI 0)
theorem sl_cyc1 {post : St2 → Prop} {c le rd vi : Int32} {a1 a2 a3 a4 a5 a6 a7 a8 a9 a10 a11 a12 a13 a14 a15 a16 a17 a18 : Nat → Int32} (hU : sl_U a9 a10) (h0 : a12 0 = -1) (h14 : a12 14 = -1)
    (H : ∀ b12 b13 : Nat → Int32, b13 0 = nI 14 → b13 1 = nI 0 → post (c, le, 1, nI 2, vi, a1, a2, a3, a4, a5, a6, a7, a8, a9, a10, a11, b12, b13, a14, a15, a16, a17, a18)) : ∃ fu, wX_schedule_23 post fu 0 c le rd 0 vi a1 a2 a3 a4 a5 a6 a7 a8 a9 a10 a11 a12 a13 a14 a15 a16 a17 a18 := by
  refine pk_loop (fun n i s => wX_schedule_23 post n (nI i) c le rd s.1 vi a1 a2 a3 a4 a5 a6 a7 a8 a9 a10 a11 s.2.1 s.2.2 a14 a15 a16 a17 a18) sl_K 100 0 (0, a12, a13) (by omega) (Or.inl ⟨rfl, rfl, h0, h14⟩) (fun n s hs => ?_) (fun n i s hi hs hw => ?_)
  · obtain ⟨sl, s12, s13⟩ := s
    refine pk_le 100 100 (fun _ => ?_) (fun z => absurd z (by omega))
    rcases hs with ⟨h, _⟩ | ⟨_, h, _⟩ | ⟨_, e, _, _, e0, e1⟩
    · exact absurd h (by omega)
    · exact absurd h (by omega)
    · dsimp only at e e0 e1
      subst e
      exact H s12 s13 e0 e1
  · obtain ⟨sl, s12, s13⟩ := s
    refine pk_le 100 i (fun z => absurd z (by omega)) (fun _ => ?_)
    rcases hs with ⟨h, e, g0, g14⟩ | ⟨l, h, e, g0, g14, o0⟩ | ⟨l, e, g0, g14, o0, o1⟩
    · dsimp only at e g0 g14
      subst h
      subst e
      have t0 : upd s12 14 0 0 = -1 := by rw [pk_un (by omega)]; exact g0
      exact sl_isA hU g0 g14 (sl_isB (i := 0) (by omega) hU t0 pk_us (nm_r (nI_1 0) (hw (nI 1, upd s12 14 0, upd s13 0 (nI 14)) (Or.inr (Or.inl ⟨by omega, by omega, rfl, t0, pk_us (f := s12) (k := 14), pk_us (f := s13) (k := 0)⟩)))))
    · dsimp only at e g0 g14 o0
      subst e
      by_cases e3 : i = 3
      · subst e3
        have t14 : upd s12 0 (nI 3) 14 = 0 := by rw [pk_un (by omega)]; exact g14
        have t0 : upd s13 1 (nI 0) 0 = nI 14 := by rw [pk_un (by omega)]; exact o0
        exact sl_isB3 hU g0 g14 (sl_isC hU pk_us t14 (nm_r (nI_1 3) (hw (nI 2, upd s12 0 (nI 3), upd s13 1 (nI 0)) (Or.inr (Or.inr ⟨by omega, rfl, pk_us (f := s12) (k := 0), t14, t0, pk_us (f := s13) (k := 1)⟩)))))
      · exact sl_isB (by omega) hU g0 g14 (sl_isB (by omega) hU g0 g14 (nm_r (nI_1 i) (hw (nI 1, s12, s13) (Or.inr (Or.inl ⟨by omega, by omega, rfl, g0, g14, o0⟩)))))
    · dsimp only at e g0 g14 o0 o1
      subst e
      exact sl_isC hU g0 g14 (sl_isC hU g0 g14 (nm_r (nI_1 i) (hw (nI 2, s12, s13) (Or.inr (Or.inr ⟨by omega, rfl, g0, g14, o0, o1⟩)))))
theorem sl_cycN {post : St2 → Prop} {c le rd ln vi : Int32} {a1 a2 a3 a4 a5 a6 a7 a8 a9 a10 a11 a12 a13 a14 a15 a16 a17 a18 : Nat → Int32} (h9 : ∀ j, j < 28 → a9 j = 0) (H : post (c, le, 1, ln, vi, a1, a2, a3, a4, a5, a6, a7, a8, a9, a10, a11, a12, a13, a14, a15, a16, a17, a18)) : ∃ fu, wX_schedule_23 post fu 0 c le rd ln vi a1 a2 a3 a4 a5 a6 a7 a8 a9 a10 a11 a12 a13 a14 a15 a16 a17 a18 :=
  pk_loop (σ := Unit) (fun n i _ => wX_schedule_23 post n (nI i) c le rd ln vi a1 a2 a3 a4 a5 a6 a7 a8 a9 a10 a11 a12 a13 a14 a15 a16 a17 a18) (fun _ _ => True) 100 0 () (by omega) trivial
    (fun n _ _ => pk_le 100 100 (fun _ => H) (fun z => absurd z (by omega)))
    (fun n i _ hi _ hw => pk_le 100 i (fun z => absurd z (by omega)) (fun _ => sl_issN (fun k hk q hq => sl_mayU hk (h9 k hk) hq) (sl_issN (fun k hk q hq => sl_mayU hk (h9 k hk) hq) (nm_r (nI_1 i) (hw () trivial)))))
theorem sl_sched1 {post : St2 → Prop} {le ln vi : Int32} {a1 a2 a3 a4 a5 a6 a7 a8 a9 a10 a11 a12 a13 a14 a15 a16 a17 a18 : Nat → Int32} (h1 : a1 0 = 3)
    (H : ∀ b9 b10 b11 b12 b13 : Nat → Int32, b13 0 = nI 14 → b13 1 = nI 0 → post (1, le, 1, nI 2, vi, a1, a2, a3, a4, a5, a6, a7, a8, b9, b10, b11, b12, b13, upd a14 0 (-1), a15, a16, a17, a18)) : wpX_schedule post (1, le, 0, ln, vi, a1, a2, a3, a4, a5, a6, a7, a8, a9, a10, a11, a12, a13, a14, a15, a16, a17, a18) := by
  unfold wpX_schedule
  dsimp only
  refine br_t rfl (sl_ord1 h1 (fun b9 b10 b11 b12 hU g0 g14 => ?_))
  exact sl_meas (fun b11' => sl_cyc1 hU g0 g14 (fun b12' b13' o0 o1 => H b9 b10 b11' b12' b13' o0 o1))
theorem sl_schedN {post : St2 → Prop} {le ln vi : Int32} {a1 a2 a3 a4 a5 a6 a7 a8 a9 a10 a11 a12 a13 a14 a15 a16 a17 a18 : Nat → Int32}
    (H : ∀ b9 b10 b11 b12 : Nat → Int32, post (0, le, 1, 0, vi, a1, a2, a3, a4, a5, a6, a7, a8, b9, b10, b11, b12, a13, a14, a15, a16, a17, a18)) : wpX_schedule post (0, le, 0, ln, vi, a1, a2, a3, a4, a5, a6, a7, a8, a9, a10, a11, a12, a13, a14, a15, a16, a17, a18) := by
  unfold wpX_schedule
  dsimp only
  refine br_t rfl (sl_ordN (fun b9 b10 b11 b12 h9 => ?_))
  exact sl_meas (fun b11' => sl_cycN h9 (H b9 b10 b11' b12))
end
section
/-! running: the early load, then the load at its place -/
/-- a place that can be read -/
def sl_ok (b8 : Nat → Int32) (x : Int32) : Prop := vp_in x 16 ∧ b8 x.toNatClampNeg = 0
theorem sl_faults {post : Int32 → Prop} {x : Int32} {c le rd ln vi : Int32} {a1 a2 a3 a4 a5 a6 a7 a8 a9 a10 a11 a12 a13 a14 a15 a16 a17 a18 : Nat → Int32} (h0 : sl_ok a8 x → post 0) (h1 : ¬ sl_ok a8 x → post 1) : wpX_faults post (c, le, rd, ln, vi, a1, a2, a3, a4, a5, a6, a7, a8, a9, a10, a11, a12, a13, a14, a15, a16, a17, a18) x := by
  unfold wpX_faults
  dsimp only
  exact sl_badAddress (fun z => br_t rfl ⟨z, br_c (fun y => h0 ⟨z, y⟩) (fun y => h1 (fun t => y t.2))⟩) (fun z => br_f sl_1n0 (h1 (fun t => z t.1)))
theorem sl_watch {post : St2 → Prop} {p x : Int32} {c le rd ln : Int32} {a1 a2 a3 a4 a5 a6 a7 a8 a9 a10 a11 a12 a13 a14 a15 a16 a17 a18 : Nat → Int32} (H : post (c, le, rd, ln, 1, a1, a2, a3, a4, a5, a6, a7, a8, a9, a10, a11, a12, a13, a14, a15, a16, upd a17 0 p, upd a18 0 x)) : wpX_watch post (c, le, rd, ln, 0, a1, a2, a3, a4, a5, a6, a7, a8, a9, a10, a11, a12, a13, a14, a15, a16, a17, a18) p x :=
  ⟨pk_in 0 4 (by omega), nm_r (by rw [sl_c0]) ⟨pk_in 0 4 (by omega), nm_r (by rw [sl_c0]) (br_f (by decide) (nm_r (e' := (1 : Int32)) (by decide) H))⟩⟩
theorem sl_early {post : St2 → Prop} {p x : Int32} {i : Nat} {c le rd ln : Int32} {a1 a2 a3 a4 a5 a6 a7 a8 a9 a10 a11 a12 a13 a14 a15 a16 a17 a18 : Nat → Int32} (hp : p = 0) (hi : i < 8) (h3 : a3 0 = nI i) (h14 : a14 0 = -1) (hx : a6 i + a5 0 = x)
    (H0 : sl_ok a8 x → post (c, le, rd, ln, 1, a1, a2, a3, a4, a5, a6, a7, a8, a9, a10, a11, a12, a13, a14, upd a15 0 (a7 x.toNatClampNeg), upd (upd a16 0 0) 0 1, upd a17 0 0, upd a18 0 x))
    (H1 : ¬ sl_ok a8 x → post (c, le, rd, ln, 0, a1, a2, a3, a4, a5, a6, a7, a8, a9, a10, a11, a12, a13, a14, a15, upd a16 0 0, a17, a18)) : wpX_loadEarly post (c, le, rd, ln, 0, a1, a2, a3, a4, a5, a6, a7, a8, a9, a10, a11, a12, a13, a14, a15, a16, a17, a18) p := by
  subst hp
  refine ⟨pk_in 0 14 (by omega), nm_r (e' := (-1 : Int32)) (by rw [sl_c0]; exact h14) ⟨pk_in 0 14 (by omega), nm_r (e' := upd a16 0 0) (by rw [sl_c0]) (br_t sl_m1n (br_t sl_m1n ⟨pk_in 0 14 (by omega), ?_⟩))⟩⟩
  rw [sl_c0, h3]
  refine ⟨pk_in i 8 hi, pk_in 0 14 (by omega), nm_r (e' := x) (by rw [nI_clamp (by omega), sl_c0]; exact hx) (sl_faults (fun z => br_t rfl ⟨pk_in 0 14 (by omega), nm_r (by rw [sl_c0]) ⟨z.1, pk_in 0 14 (by omega), nm_r (by rw [sl_c0]) (sl_watch (H0 z))⟩⟩) (fun z => br_f sl_1n0 (H1 z)))⟩
theorem sl_still {post : Int32 → Prop} {p x : Int32} {c le rd ln vi : Int32} {a1 a2 a3 a4 a5 a6 a7 a8 a9 a10 a11 a12 a13 a14 a15 a16 a17 a18 : Nat → Int32} (h17 : a17 0 = p) (h18 : a18 0 = x) (H : post 1) : wpX_stillWatched post (c, le, rd, ln, vi, a1, a2, a3, a4, a5, a6, a7, a8, a9, a10, a11, a12, a13, a14, a15, a16, a17, a18) p x := by
  refine pk_loop (fun n i s => wX_stillWatched_5 post p x c le rd ln vi a1 a2 a3 a4 a5 a6 a7 a8 a9 a10 a11 a12 a13 a14 a15 a16 a17 a18 n s (nI i)) (fun i s => (i = 0 ∧ s = 0) ∨ (1 ≤ i ∧ s = 1)) 4 0 0 (by omega) (Or.inl ⟨rfl, rfl⟩) (fun n s hs => ?_) (fun n i s hi hs hw => ?_)
  · have e : s = 1 := by
      rcases hs with ⟨h, e⟩ | ⟨h, e⟩
      · exact absurd h (by omega)
      · exact e
    subst e
    exact pk_le 4 4 (fun _ => ⟨sl_nb1, H⟩) (fun z => absurd z (by omega))
  · have q := hw 1 (Or.inr ⟨by omega, rfl⟩)
    refine pk_le 4 i (fun z => absurd z (by omega)) (fun _ => ⟨pk_in i 4 hi, ?_⟩)
    rw [nI_clamp (by omega)]
    rcases hs with ⟨h, e⟩ | ⟨h, e⟩
    · subst h
      exact br_t h17 ⟨pk_in 0 4 hi, br_t h18 (nm_r (nI_1 0) q)⟩
    · subst e
      exact br_c (fun _ => ⟨pk_in i 4 hi, br_c (fun _ => nm_r (nI_1 i) q) (fun _ => nm_r (nI_1 i) q)⟩) (fun _ => nm_r (nI_1 i) q)
/-- the early load was sound and is still watched -/
theorem sl_checkG {post : Int32 → St2 → Prop} {x v : Int32} {i : Nat} {c le rd ln vi : Int32} {a1 a2 a3 a4 a5 a6 a7 a8 a9 a10 a11 a12 a13 a14 a15 a16 a17 a18 : Nat → Int32} (hi : i < 8) (h2 : a2 0 = nI i) (h3 : a3 0 = nI i) (hx : a6 i + a5 0 = x) (h15 : a15 0 = v) (h16 : ¬ a16 0 = 0) (h17 : a17 0 = 0) (h18 : a18 0 = x)
    (H : post 1 (c, le, rd, ln, vi, a1, a2, a3, a4, a5, upd a6 i v, a7, a8, a9, a10, a11, a12, a13, a14, a15, a16, a17, a18)) : wpX_check post (c, le, rd, ln, vi, a1, a2, a3, a4, a5, a6, a7, a8, a9, a10, a11, a12, a13, a14, a15, a16, a17, a18) 0 := by
  refine ⟨pk_in 0 14 (by omega), ?_⟩
  rw [sl_c0, h3]
  refine ⟨pk_in i 8 hi, pk_in 0 14 (by omega), nm_r (e' := x) (by rw [nI_clamp (by omega)]; exact hx) ⟨pk_in 0 14 (by omega), br_f h16 (sl_still h17 h18 (br_f sl_1n0 (br_f sl_1n0 ⟨pk_in 0 14 (by omega), pk_in 0 14 (by omega), ?_⟩)))⟩⟩
  rw [sl_c0, h2, h15]
  exact ⟨pk_in i 8 hi, nm_r (by rw [nI_clamp (by omega)]) H⟩
/-- the early load was not sound, and the place can't be read -/
theorem sl_checkB {post : Int32 → St2 → Prop} {x : Int32} {i : Nat} {c le rd ln vi : Int32} {a1 a2 a3 a4 a5 a6 a7 a8 a9 a10 a11 a12 a13 a14 a15 a16 a17 a18 : Nat → Int32} (hi : i < 8) (h3 : a3 0 = nI i) (hx : a6 i + a5 0 = x) (h16 : a16 0 = 0) (hb : ¬ sl_ok a8 x) (H : post 0 (c, le, rd, ln, vi, a1, a2, a3, a4, a5, a6, a7, a8, a9, a10, a11, a12, a13, a14, a15, a16, a17, a18)) : wpX_check post (c, le, rd, ln, vi, a1, a2, a3, a4, a5, a6, a7, a8, a9, a10, a11, a12, a13, a14, a15, a16, a17, a18) 0 := by
  refine ⟨pk_in 0 14 (by omega), ?_⟩
  rw [sl_c0, h3]
  exact ⟨pk_in i 8 hi, pk_in 0 14 (by omega), nm_r (e' := x) (by rw [nI_clamp (by omega)]; exact hx) ⟨pk_in 0 14 (by omega), br_t h16 (br_t rfl (sl_faults (fun z => absurd z hb) (fun z => br_f sl_1n0 H)))⟩⟩
theorem sl_exec14 {post : Int32 → St2 → Prop} {x p : Int32} {i : Nat} {c le rd ln : Int32} {a1 a2 a3 a4 a5 a6 a7 a8 a9 a10 a11 a12 a13 a14 a15 a16 a17 a18 : Nat → Int32} (hp : p = nI 14) (hi : i < 8) (h3 : a3 0 = nI i) (h14 : a14 0 = -1) (hx : a6 i + a5 0 = x)
    (H0 : sl_ok a8 x → post (-1) (c, le, rd, ln, 1, a1, a2, a3, a4, a5, a6, a7, a8, a9, a10, a11, a12, a13, a14, upd a15 0 (a7 x.toNatClampNeg), upd (upd a16 0 0) 0 1, upd a17 0 0, upd a18 0 x))
    (H1 : ¬ sl_ok a8 x → post (-1) (c, le, rd, ln, 0, a1, a2, a3, a4, a5, a6, a7, a8, a9, a10, a11, a12, a13, a14, a15, upd a16 0 0, a17, a18)) : wpX_execute post (c, le, rd, ln, 0, a1, a2, a3, a4, a5, a6, a7, a8, a9, a10, a11, a12, a13, a14, a15, a16, a17, a18) p := by
  subst hp
  exact br_f (show ¬ nI 14 < 14 by decide) (sl_early (by decide) hi h3 h14 hx H0 H1)
theorem sl_exec0G {post : Int32 → St2 → Prop} {p x v : Int32} {i : Nat} {c le rd ln vi : Int32} {a1 a2 a3 a4 a5 a6 a7 a8 a9 a10 a11 a12 a13 a14 a15 a16 a17 a18 : Nat → Int32} (hp : p = 0) (h1 : a1 0 = 3) (hi : i < 8) (h2 : a2 0 = nI i) (h3 : a3 0 = nI i) (hx : a6 i + a5 0 = x) (h15 : a15 0 = v) (h16 : ¬ a16 0 = 0) (h17 : a17 0 = 0) (h18 : a18 0 = x)
    (H : post (-1) (c, le, rd, ln, vi, a1, a2, a3, a4, a5, upd a6 i v, a7, a8, a9, a10, a11, a12, a13, a14, a15, a16, a17, a18)) : wpX_execute post (c, le, rd, ln, vi, a1, a2, a3, a4, a5, a6, a7, a8, a9, a10, a11, a12, a13, a14, a15, a16, a17, a18) p := by
  subst hp
  exact br_t (by decide) ⟨pk_in 0 14 (by omega), nm_r (e' := (3 : Int32)) (by rw [sl_c0]; exact h1) (br_t rfl (sl_checkG hi h2 h3 hx h15 h16 h17 h18 (br_f sl_1n0 H)))⟩
theorem sl_exec0B {post : Int32 → St2 → Prop} {p x : Int32} {i : Nat} {c le rd ln vi : Int32} {a1 a2 a3 a4 a5 a6 a7 a8 a9 a10 a11 a12 a13 a14 a15 a16 a17 a18 : Nat → Int32} (hp : p = 0) (h1 : a1 0 = 3) (hi : i < 8) (h3 : a3 0 = nI i) (hx : a6 i + a5 0 = x) (h16 : a16 0 = 0) (hb : ¬ sl_ok a8 x)
    (H : post 2 (c, le, rd, ln, vi, a1, a2, a3, a4, a5, a6, a7, a8, a9, a10, a11, a12, a13, a14, a15, a16, a17, a18)) : wpX_execute post (c, le, rd, ln, vi, a1, a2, a3, a4, a5, a6, a7, a8, a9, a10, a11, a12, a13, a14, a15, a16, a17, a18) p := by
  subst hp
  exact br_t (by decide) ⟨pk_in 0 14 (by omega), nm_r (e' := (3 : Int32)) (by rw [sl_c0]; exact h1) (br_t rfl (sl_checkB hi h3 hx h16 hb (br_t rfl H)))⟩
theorem sl_run11 {post : Int32 → St2 → Prop} {c le rd ln vi : Int32} {a1 a2 a3 a4 a5 a6 a7 a8 a9 a10 a11 a12 a13 a14 a15 a16 a17 a18 : Nat → Int32} (H : ∀ b17 b18 : Nat → Int32, ∃ fu, wX_run_40 post fu (-1) 0 c le rd ln vi a1 a2 a3 a4 a5 a6 a7 a8 a9 a10 a11 a12 a13 a14 a15 a16 b17 b18) : ∃ fu, wX_run_11 post c le rd ln vi fu 0 a1 a2 a3 a4 a5 a6 a7 a8 a9 a10 a11 a12 a13 a14 a15 a16 a17 a18 :=
  pk_loop (fun n i (s : (Nat → Int32) × (Nat → Int32)) => wX_run_11 post c le rd ln vi n (nI i) a1 a2 a3 a4 a5 a6 a7 a8 a9 a10 a11 a12 a13 a14 a15 a16 s.1 s.2) (fun _ _ => True) 4 0 (a17, a18) (by omega) trivial
    (fun n s _ => pk_le 4 4 (fun _ => H s.1 s.2) (fun z => absurd z (by omega)))
    (fun n i s hi _ hw => pk_le 4 i (fun z => absurd z (by omega)) (fun _ => ⟨pk_in i 4 hi, nm_e ⟨pk_in i 4 hi, nm_e (nm_r (nI_1 i) (hw (_, _) trivial))⟩⟩))
/-- run without an instruction -/
theorem sl_runN {post : Int32 → St2 → Prop} {le ln vi : Int32} {a1 a2 a3 a4 a5 a6 a7 a8 a9 a10 a11 a12 a13 a14 a15 a16 a17 a18 : Nat → Int32} (H : ∀ (a1 a2 a3 a4 a5 a8 a9 a10 a11 a12 a13 a14 a15 a16 a17 a18 : Nat → Int32) (c rd ln vi : Int32), post 0 (c, 0, rd, ln, vi, a1, a2, a3, a4, a5, a6, a7, a8, a9, a10, a11, a12, a13, a14, a15, a16, a17, a18)) : wpX_run post (0, le, 0, ln, vi, a1, a2, a3, a4, a5, a6, a7, a8, a9, a10, a11, a12, a13, a14, a15, a16, a17, a18) := by
  unfold wpX_run
  dsimp only
  refine sl_schedN (fun b9 b10 b11 b12 => ?_)
  dsimp only
  exact sl_run11 (fun b17 b18 => ⟨1, br_t (by decide) (br_f sl_m1p (H _ _ _ _ _ _ _ _ _ _ _ _ _ _ _ _ _ _ _ _))⟩)
/-- run with one load -/
theorem sl_run1 {post : Int32 → St2 → Prop} {x : Int32} {i : Nat} {le ln vi : Int32} {a1 a2 a3 a4 a5 a6 a7 a8 a9 a10 a11 a12 a13 a14 a15 a16 a17 a18 : Nat → Int32} (hi : i < 8) (h1 : a1 0 = 3) (h2 : a2 0 = nI i) (h3 : a3 0 = nI i) (hx : a6 i + a5 0 = x)
    (H0 : sl_ok a8 x → ∀ (a1 a2 a3 a4 a5 a8 a9 a10 a11 a12 a13 a14 a15 a16 a17 a18 : Nat → Int32) (c rd ln vi : Int32), post 0 (c, 0, rd, ln, vi, a1, a2, a3, a4, a5, upd a6 i (a7 x.toNatClampNeg), a7, a8, a9, a10, a11, a12, a13, a14, a15, a16, a17, a18))
    (H1 : ¬ sl_ok a8 x → ∀ (a1 a2 a3 a4 a5 a8 a9 a10 a11 a12 a13 a14 a15 a16 a17 a18 : Nat → Int32) (c rd ln vi : Int32), post 2 (c, 2, rd, ln, vi, a1, a2, a3, a4, a5, a6, a7, a8, a9, a10, a11, a12, a13, a14, a15, a16, a17, a18)) : wpX_run post (1, le, 0, ln, vi, a1, a2, a3, a4, a5, a6, a7, a8, a9, a10, a11, a12, a13, a14, a15, a16, a17, a18) := by
  unfold wpX_run
  dsimp only
  refine sl_sched1 h1 (fun b9 b10 b11 b12 b13 o0 o1 => ?_)
  dsimp only
  refine sl_run11 (fun b17 b18 => ⟨3, br_f (by decide) (br_f sl_m1p ⟨pk_in 0 28 (by omega), sl_exec14 (x := x) (by rw [sl_c0]; exact o0) hi h3 pk_us hx (fun z => ?_) (fun z => ?_)⟩)⟩)
  · refine nm_r (e' := nI 1) (by decide) (br_f (by decide) (br_f sl_m1p ⟨pk_in 1 28 (by omega), sl_exec0G (x := x) (by rw [nI_clamp (by omega)]; exact o1) h1 hi h2 h3 hx pk_us (by rw [pk_us]; exact sl_1n0) pk_us pk_us ?_⟩))
    exact nm_r (e' := nI 2) (by decide) (br_t (by decide) (br_f sl_m1p (H0 z _ _ _ _ _ _ _ _ _ _ _ _ _ _ _ _ _ _ _ _)))
  · refine nm_r (e' := nI 1) (by decide) (br_f (by decide) (br_f sl_m1p ⟨pk_in 1 28 (by omega), sl_exec0B (x := x) (by rw [nI_clamp (by omega)]; exact o1) h1 hi h3 hx pk_us z ?_⟩))
    exact nm_r (e' := nI 2) (by decide) (br_t (by decide) (br_t (by decide) (H1 z _ _ _ _ _ _ _ _ _ _ _ _ _ _ _ _ _ _ _ _)))
end
section
/-! the law's answer: a pure reading of what it compares -/
theorem sl_l324 {mc ms kc ks : Nat} {x4 x14 x17 z0 z1 : Int32} (h : z1 = z0) (h14 : (x17 = 0 → x14 = 0) ∧ (¬ x17 = 0 → x14 = x4)) : wL_lawOf_324 (fun r _ => r = 1) mc ms x4 x14 x17 z0 z1 kc ks :=
  br_t h (br_c (fun z => br_t (h14.1 z) rfl) (fun z => br_t (h14.2 z) rfl))
theorem sl_l278 {mc ms kc ks : Nat} {x1 x4 x12 x13 x14 x15 x16 x17 x18 x20 x21 z0 z1 : Int32} (h : z1 = z0) (h15 : x15 = x12) (h13 : (x16 = 0 → x13 = 0) ∧ (¬ x16 = 0 → ((x18 = 0 → x13 = x1) ∧ (¬ x18 = 0 → ((x21 = 0 → ((x20 = 0 → x13 = 0) ∧ (¬ x20 = 0 → x13 = x4))) ∧ (¬ x21 = 0 → x13 = x1)))))) (h14 : (x17 = 0 → x14 = 0) ∧ (¬ x17 = 0 → x14 = x4)) : wL_lawOf_278 (fun r _ => r = 1) mc ms x1 x4 x12 x13 x14 x15 x16 x17 x18 x20 x21 z0 z1 kc ks :=
  br_t h (br_t h15 (br_c (fun z => sl_l324 (h13.1 z) h14) (fun z => br_c (fun y => sl_l324 ((h13.2 z).1 y) h14) (fun y => br_c (fun w => br_c (fun t => sl_l324 ((((h13.2 z).2 y).1 w).1 t) h14) (fun t => sl_l324 ((((h13.2 z).2 y).1 w).2 t) h14)) (fun w => sl_l324 (((h13.2 z).2 y).2 w) h14)))))
theorem sl_l257 {mc ms kc ks : Nat} {x1 x4 x11 x12 x13 x14 x15 x16 x17 x18 x20 x21 z0 z1 : Int32} (h : z1 = z0) (h11 : x11 = -1) (h12 : (x21 = 0 → x12 = 0) ∧ (¬ x21 = 0 → x12 = 2)) (h15 : x15 = x12) (h13 : (x16 = 0 → x13 = 0) ∧ (¬ x16 = 0 → ((x18 = 0 → x13 = x1) ∧ (¬ x18 = 0 → ((x21 = 0 → ((x20 = 0 → x13 = 0) ∧ (¬ x20 = 0 → x13 = x4))) ∧ (¬ x21 = 0 → x13 = x1)))))) (h14 : (x17 = 0 → x14 = 0) ∧ (¬ x17 = 0 → x14 = x4)) : wL_lawOf_257 (fun r _ => r = 1) mc ms x1 x4 x11 x12 x13 x14 x15 x16 x17 x18 x20 x21 z0 z1 kc ks :=
  br_t h (br_t h11 (br_c (fun z => sl_l278 (h12.1 z) h15 h13 h14) (fun z => sl_l278 (h12.2 z) h15 h13 h14)))
theorem sl_l242 {mc ms kc ks : Nat} {x1 x4 x10 x11 x12 x13 x14 x15 x16 x17 x18 x20 x21 z0 z1 : Int32} (h : z1 = z0) (h10 : (x18 = 0 → x10 = -1) ∧ (¬ x18 = 0 → x10 = 0)) (h11 : x11 = -1) (h12 : (x21 = 0 → x12 = 0) ∧ (¬ x21 = 0 → x12 = 2)) (h15 : x15 = x12) (h13 : (x16 = 0 → x13 = 0) ∧ (¬ x16 = 0 → ((x18 = 0 → x13 = x1) ∧ (¬ x18 = 0 → ((x21 = 0 → ((x20 = 0 → x13 = 0) ∧ (¬ x20 = 0 → x13 = x4))) ∧ (¬ x21 = 0 → x13 = x1)))))) (h14 : (x17 = 0 → x14 = 0) ∧ (¬ x17 = 0 → x14 = x4)) : wL_lawOf_242 (fun r _ => r = 1) mc ms x1 x4 x10 x11 x12 x13 x14 x15 x16 x17 x18 x20 x21 z0 z1 kc ks :=
  br_t h (br_c (fun z => sl_l257 (h10.1 z) h11 h12 h15 h13 h14) (fun z => sl_l257 (h10.2 z) h11 h12 h15 h13 h14))
theorem sl_l227 {mc ms kc ks : Nat} {x1 x4 x9 x10 x11 x12 x13 x14 x15 x16 x17 x18 x20 x21 z0 z1 : Int32} (h : z1 = z0) (h9 : (x17 = 0 → x9 = -1) ∧ (¬ x17 = 0 → x9 = 0)) (h10 : (x18 = 0 → x10 = -1) ∧ (¬ x18 = 0 → x10 = 0)) (h11 : x11 = -1) (h12 : (x21 = 0 → x12 = 0) ∧ (¬ x21 = 0 → x12 = 2)) (h15 : x15 = x12) (h13 : (x16 = 0 → x13 = 0) ∧ (¬ x16 = 0 → ((x18 = 0 → x13 = x1) ∧ (¬ x18 = 0 → ((x21 = 0 → ((x20 = 0 → x13 = 0) ∧ (¬ x20 = 0 → x13 = x4))) ∧ (¬ x21 = 0 → x13 = x1)))))) (h14 : (x17 = 0 → x14 = 0) ∧ (¬ x17 = 0 → x14 = x4)) : wL_lawOf_227 (fun r _ => r = 1) mc ms x1 x4 x9 x10 x11 x12 x13 x14 x15 x16 x17 x18 x20 x21 z0 z1 kc ks :=
  br_t h (br_c (fun z => sl_l242 (h9.1 z) h10 h11 h12 h15 h13 h14) (fun z => sl_l242 (h9.2 z) h10 h11 h12 h15 h13 h14))
theorem sl_l212 {mc ms kc ks : Nat} {x1 x4 x8 x9 x10 x11 x12 x13 x14 x15 x16 x17 x18 x20 x21 z0 z1 : Int32} (h : z1 = z0) (h8 : (x17 = 0 → x8 = -1) ∧ (¬ x17 = 0 → x8 = 0)) (h9 : (x17 = 0 → x9 = -1) ∧ (¬ x17 = 0 → x9 = 0)) (h10 : (x18 = 0 → x10 = -1) ∧ (¬ x18 = 0 → x10 = 0)) (h11 : x11 = -1) (h12 : (x21 = 0 → x12 = 0) ∧ (¬ x21 = 0 → x12 = 2)) (h15 : x15 = x12) (h13 : (x16 = 0 → x13 = 0) ∧ (¬ x16 = 0 → ((x18 = 0 → x13 = x1) ∧ (¬ x18 = 0 → ((x21 = 0 → ((x20 = 0 → x13 = 0) ∧ (¬ x20 = 0 → x13 = x4))) ∧ (¬ x21 = 0 → x13 = x1)))))) (h14 : (x17 = 0 → x14 = 0) ∧ (¬ x17 = 0 → x14 = x4)) : wL_lawOf_212 (fun r _ => r = 1) mc ms x1 x4 x8 x9 x10 x11 x12 x13 x14 x15 x16 x17 x18 x20 x21 z0 z1 kc ks :=
  br_t h (br_c (fun z => sl_l227 (h8.1 z) h9 h10 h11 h12 h15 h13 h14) (fun z => sl_l227 (h8.2 z) h9 h10 h11 h12 h15 h13 h14))
theorem sl_l198 {mc ms kc ks : Nat} {x1 x4 x7 x8 x9 x10 x11 x12 x13 x14 x15 x16 x17 x18 x20 x21 : Int32} (h7 : (x16 = 0 → x7 = -1) ∧ (¬ x16 = 0 → x7 = 0)) (h8 : (x17 = 0 → x8 = -1) ∧ (¬ x17 = 0 → x8 = 0)) (h9 : (x17 = 0 → x9 = -1) ∧ (¬ x17 = 0 → x9 = 0)) (h10 : (x18 = 0 → x10 = -1) ∧ (¬ x18 = 0 → x10 = 0)) (h11 : x11 = -1) (h12 : (x21 = 0 → x12 = 0) ∧ (¬ x21 = 0 → x12 = 2)) (h15 : x15 = x12) (h13 : (x16 = 0 → x13 = 0) ∧ (¬ x16 = 0 → ((x18 = 0 → x13 = x1) ∧ (¬ x18 = 0 → ((x21 = 0 → ((x20 = 0 → x13 = 0) ∧ (¬ x20 = 0 → x13 = x4))) ∧ (¬ x21 = 0 → x13 = x1)))))) (h14 : (x17 = 0 → x14 = 0) ∧ (¬ x17 = 0 → x14 = x4)) : wL_lawOf_198 (fun r _ => r = 1) mc ms x1 x4 x7 x8 x9 x10 x11 x12 x13 x14 x15 x16 x17 x18 x20 x21 kc ks :=
  br_c (fun z => sl_l212 (h7.1 z) h8 h9 h10 h11 h12 h15 h13 h14) (fun z => sl_l212 (h7.2 z) h8 h9 h10 h11 h12 h15 h13 h14)
/-- a boolean that says P -/
def sl_B (f : Int32) (P : Prop) : Prop := (f = 0 ∧ ¬ P) ∨ (f = 1 ∧ P)
theorem sl_l164 {post : Int32 → St0 → Prop} {mc ms kc ks : Nat} {x1 x4 x5 x7 x8 x9 x10 x11 x12 x13 x14 x15 x16 x17 x18 x19 z0 : Int32} (H : ∀ f, sl_B f (¬ x18 = 0 ∧ (x19 < 0 ∨ 15 < x19 ∨ (¬ z0 = 0 ∧ ¬ x5 = 0))) → wL_lawOf_198 post mc ms x1 x4 x7 x8 x9 x10 x11 x12 x13 x14 x15 x16 x17 x18 z0 f kc ks) : wL_lawOf_164 post mc ms x1 x4 x5 x7 x8 x9 x10 x11 x12 x13 x14 x15 x16 x17 x18 x19 z0 kc ks :=
  br_c (fun z => H 0 (Or.inl ⟨rfl, fun t => t.1 z⟩)) (fun z => br_c (fun y => H 1 (Or.inr ⟨rfl, z, Or.inl y⟩)) (fun y => br_c (fun w => H 1 (Or.inr ⟨rfl, z, Or.inr (Or.inl w)⟩)) (fun w =>
    br_c (fun v => H 0 (Or.inl ⟨rfl, fun t => t.2.elim y (fun q => q.elim w (fun q => q.1 v))⟩)) (fun v => br_c (fun s => H 0 (Or.inl ⟨rfl, fun t => t.2.elim y (fun q => q.elim w (fun q => q.2 s))⟩)) (fun s => H 1 (Or.inr ⟨rfl, z, Or.inr (Or.inr ⟨v, s⟩)⟩))))))
theorem sl_l141 {post : Int32 → St0 → Prop} {mc ms kc ks : Nat} {x1 x2 x3 x4 x5 x7 x8 x9 x10 x11 x12 x13 x14 x15 x16 x17 z0 : Int32} (H : ∀ f, sl_B f (¬ x17 = 0 ∧ x1 + x2 = x3) → wL_lawOf_164 post mc ms x1 x4 x5 x7 x8 x9 x10 x11 x12 x13 x14 x15 x16 x17 z0 (x1 + x2) f kc ks) : wL_lawOf_141 post mc ms x1 x2 x3 x4 x5 x7 x8 x9 x10 x11 x12 x13 x14 x15 x16 x17 z0 kc ks :=
  nm_e (br_c (fun z => H 0 (Or.inl ⟨rfl, fun t => t.1 z⟩)) (fun z => br_c (fun y => H 1 (Or.inr ⟨rfl, z, y⟩)) (fun y => H 0 (Or.inl ⟨rfl, fun t => y t.2⟩))))
theorem sl_l117 {post : Int32 → St0 → Prop} {mc ms kc ks : Nat} {x1 x2 x3 x4 x5 x7 x8 x9 x10 x11 x12 x13 x14 x15 x16 z0 : Int32} (H : ∀ f, sl_B f (¬ x16 = 0 ∧ ¬ x2 < (-8) ∧ ¬ 15 < x2) → wL_lawOf_141 post mc ms x1 x2 x3 x4 x5 x7 x8 x9 x10 x11 x12 x13 x14 x15 x16 z0 f kc ks) : wL_lawOf_117 post mc ms x1 x2 x3 x4 x5 x7 x8 x9 x10 x11 x12 x13 x14 x15 x16 z0 kc ks :=
  br_c (fun z => H 0 (Or.inl ⟨rfl, fun t => t.1 z⟩)) (fun z => br_c (fun y => H 0 (Or.inl ⟨rfl, fun t => t.2.1 y⟩)) (fun y => br_c (fun w => H 0 (Or.inl ⟨rfl, fun t => t.2.2 w⟩)) (fun w => H 1 (Or.inr ⟨rfl, z, y, w⟩))))
theorem sl_l100 {post : Int32 → St0 → Prop} {mc ms kc ks : Nat} {x1 x2 x3 x4 x5 x7 x8 x9 x10 x11 x12 x13 x14 x15 z0 : Int32} (H : ∀ f, sl_B f (¬ x3 < 0 ∧ ¬ 15 < x3) → wL_lawOf_117 post mc ms x1 x2 x3 x4 x5 x7 x8 x9 x10 x11 x12 x13 x14 x15 z0 f kc ks) : wL_lawOf_100 post mc ms x1 x2 x3 x4 x5 x7 x8 x9 x10 x11 x12 x13 x14 x15 z0 kc ks :=
  br_c (fun z => H 0 (Or.inl ⟨rfl, fun t => t.1 z⟩)) (fun z => br_c (fun y => H 0 (Or.inl ⟨rfl, fun t => t.2 y⟩)) (fun y => H 1 (Or.inr ⟨rfl, z, y⟩)))
end
section
/-! the law's booleans, read -/
theorem sl_Bi {f : Int32} {P : Prop} (h : sl_B f P) : ¬ f = 0 ↔ P := by
  rcases h with ⟨e, n⟩ | ⟨e, p⟩
  · exact ⟨fun z => absurd e z, fun p => absurd p n⟩
  · subst e
    exact ⟨fun _ => p, fun _ => sl_1n0⟩
theorem sl_in8L {p : Int32} : (¬ p < 0 ∧ ¬ 7 < p) ↔ vp_in p 8 := by
  rw [sl_in8, sl_nlt (x := 7)]
theorem sl_in16L {p : Int32} : (¬ p < 0 ∧ ¬ 15 < p) ↔ vp_in p 16 := by
  rw [sl_in16, sl_nlt (x := 15)]
def sl_LD (a o : Int32) : Prop := vp_in a 8 ∧ ¬ o < (-8) ∧ ¬ 15 < o
def sl_HR (x t : Int32) : Prop := vp_in x 16 ∧ t = x
def sl_FT (a o x on t : Int32) : Prop := sl_LD a o ∧ (¬ vp_in t 16 ∨ (sl_HR x t ∧ ¬ on = 0))
theorem sl_fin {mc ms kc ks : Nat} {a base o x v on st pu ba ma be en no wo la : Int32}
    (s1 : vp_in a 8 → st = 0) (s2 : ¬ vp_in a 8 → st = -1) (p1 : vp_in x 16 → pu = 0) (p2 : ¬ vp_in x 16 → pu = -1) (b1 : vp_in x 16 → ba = 0) (b2 : ¬ vp_in x 16 → ba = -1)
    (m1 : sl_LD a o → ma = 0) (m2 : ¬ sl_LD a o → ma = -1) (be1 : be = -1) (e1 : sl_FT a o x on (base + o) → en = 2) (e2 : ¬ sl_FT a o x on (base + o) → en = 0) (l1 : la = en)
    (n1 : ¬ vp_in a 8 → no = 0) (n2 : vp_in a 8 → (¬ sl_LD a o ∨ sl_FT a o x on (base + o)) → no = base)
    (n3 : sl_LD a o → ¬ sl_FT a o x on (base + o) → ¬ sl_HR x (base + o) → no = 0) (n4 : sl_LD a o → ¬ sl_FT a o x on (base + o) → sl_HR x (base + o) → no = v)
    (w1 : vp_in x 16 → wo = v) (w2 : ¬ vp_in x 16 → wo = 0) :
    (a < 0 → wL_lawOf_99 (fun r _ => r = 1) mc ms base o x v on st pu ba ma be en no wo la kc ks) ∧ (¬ a < 0 → ((7 < a → wL_lawOf_99 (fun r _ => r = 1) mc ms base o x v on st pu ba ma be en no wo la kc ks) ∧ (¬ 7 < a → wL_lawOf_100 (fun r _ => r = 1) mc ms base o x v on st pu ba ma be en no wo la 1 kc ks))) := by
  have T : ∀ f, sl_B f (¬ a < 0 ∧ ¬ 7 < a) → wL_lawOf_100 (fun r _ => r = 1) mc ms base o x v on st pu ba ma be en no wo la f kc ks := by
    intro f16 b16
    refine sl_l100 (fun f17 b17 => sl_l117 (fun f18 b18 => sl_l141 (fun f20 b20 => sl_l164 (fun f21 b21 => ?_))))
    have A : ¬ f16 = 0 ↔ vp_in a 8 := (sl_Bi b16).trans sl_in8L
    have X : ¬ f17 = 0 ↔ vp_in x 16 := (sl_Bi b17).trans sl_in16L
    have D : ¬ f18 = 0 ↔ sl_LD a o := (sl_Bi b18).trans (and_congr A Iff.rfl)
    have E : ¬ f20 = 0 ↔ sl_HR x (base + o) := (sl_Bi b20).trans (and_congr X Iff.rfl)
    have F : ¬ f21 = 0 ↔ sl_FT a o x on (base + o) := by
      refine (sl_Bi b21).trans (and_congr D ?_)
      rw [E, ← sl_in16L]
      constructor
      · intro h
        rcases h with h | h | h
        · exact Or.inl (fun t => t.1 h)
        · exact Or.inl (fun t => t.2 h)
        · exact Or.inr h
      · intro h
        rcases h with h | h
        · by_cases g : base + o < 0
          · exact Or.inl g
          · by_cases g2 : 15 < base + o
            · exact Or.inr (Or.inl g2)
            · exact absurd ⟨g, g2⟩ h
        · exact Or.inr (Or.inr h)
    refine sl_l198 ⟨fun z => s2 (fun t => A.mpr t z), fun z => s1 (A.mp z)⟩ ⟨fun z => p2 (fun t => X.mpr t z), fun z => p1 (X.mp z)⟩ ⟨fun z => b2 (fun t => X.mpr t z), fun z => b1 (X.mp z)⟩
      ⟨fun z => m2 (fun t => D.mpr t z), fun z => m1 (D.mp z)⟩ be1 ⟨fun z => e2 (fun t => F.mpr t z), fun z => e1 (F.mp z)⟩ l1 ?_ ⟨fun z => w2 (fun t => X.mpr t z), fun z => w1 (X.mp z)⟩
    refine ⟨fun z => n1 (fun t => A.mpr t z), fun z => ⟨fun y => n2 (A.mp z) (Or.inl (fun t => D.mpr t y)), fun y => ⟨fun w => ⟨fun t => ?_, fun t => ?_⟩, fun w => n2 (A.mp z) (Or.inr (F.mp w))⟩⟩⟩
    · exact n3 (D.mp y) (fun q => F.mpr q w) (fun q => E.mpr q t)
    · exact n4 (D.mp y) (fun q => F.mpr q w) (E.mp t)
  exact br_c (fun z => T 0 (Or.inl ⟨rfl, fun t => t.1 z⟩)) (fun z => br_c (fun y => T 0 (Or.inl ⟨rfl, fun t => t.2 y⟩)) (fun y => T 1 (Or.inr ⟨rfl, z, y⟩)))
/-! the calls, their answers and arrays as the law needs them -/
theorem sl_init {post : St2 → Prop} {c le rd ln vi : Int32} (H : post (c, (-1), rd, ln, vi, (fun _ => 0), (fun _ => 0), (fun _ => 0), (fun _ => 0), (fun _ => 0), (fun _ => 0), (fun _ => 0), (fun _ => 0), (fun _ => 0), (fun _ => 0), (fun _ => 0), (fun _ => 0), (fun _ => 0), (fun _ => 0), (fun _ => 0), (fun _ => 0), (fun _ => 0), (fun _ => 0))) : wpX_init post 18 300 (c, le, rd, ln, vi) :=
  ⟨by decide, by decide, by decide, by decide, by decide, by decide, by decide, by decide, by decide, by decide, by decide, by decide, by decide, by decide, by decide, by decide, by decide, by decide, by decide, by decide, by decide, by decide, by decide, by decide, by decide, by decide, by decide, by decide, by decide, by decide, by decide, by decide, by decide, by decide, by decide, by decide, H⟩
theorem sl_setR2 {post : Int32 → St2 → Prop} {p q : Int32} {c le rd ln vi : Int32} {a1 a2 a3 a4 a5 a6 a7 a8 a9 a10 a11 a12 a13 a14 a15 a16 a17 a18 : Nat → Int32} (H : ∀ (r : Int32) (b6 : Nat → Int32), (vp_in p 8 → r = 0 ∧ b6 p.toNatClampNeg = q) → (¬ vp_in p 8 → r = -1) → post r (c, le, rd, ln, vi, a1, a2, a3, a4, a5, b6, a7, a8, a9, a10, a11, a12, a13, a14, a15, a16, a17, a18)) : wpX_setRegister post (c, le, rd, ln, vi, a1, a2, a3, a4, a5, a6, a7, a8, a9, a10, a11, a12, a13, a14, a15, a16, a17, a18) p q :=
  sl_setRegister (fun z => H 0 _ (fun _ => ⟨rfl, pk_us⟩) (fun t => absurd z t)) (fun z => H (-1) _ (fun t => absurd t z) (fun _ => rfl))
theorem sl_setW2 {post : Int32 → St2 → Prop} {p q : Int32} {c le rd ln vi : Int32} {a1 a2 a3 a4 a5 a6 a7 a8 a9 a10 a11 a12 a13 a14 a15 a16 a17 a18 : Nat → Int32} (h7 : ∀ j, a7 j = 0) (H : ∀ (r : Int32) (b7 : Nat → Int32), (vp_in p 16 → r = 0 ∧ b7 p.toNatClampNeg = q ∧ ∀ j, j ≠ p.toNatClampNeg → b7 j = 0) → (¬ vp_in p 16 → r = -1 ∧ ∀ j, b7 j = 0) → post r (c, le, rd, ln, vi, a1, a2, a3, a4, a5, a6, b7, a8, a9, a10, a11, a12, a13, a14, a15, a16, a17, a18)) : wpX_setWord post (c, le, rd, ln, vi, a1, a2, a3, a4, a5, a6, a7, a8, a9, a10, a11, a12, a13, a14, a15, a16, a17, a18) p q :=
  sl_setWord (fun z => H 0 _ (fun _ => ⟨rfl, pk_us, fun j hj => (pk_un hj).trans (h7 j)⟩) (fun t => absurd z t)) (fun z => H (-1) _ (fun t => absurd t z) (fun _ => ⟨rfl, h7⟩))
theorem sl_bar2 {post : Int32 → St2 → Prop} {p q : Int32} {c le rd ln vi : Int32} {a1 a2 a3 a4 a5 a6 a7 a8 a9 a10 a11 a12 a13 a14 a15 a16 a17 a18 : Nat → Int32} (h8 : ∀ j, a8 j = 0) (H : ∀ (r : Int32) (b8 : Nat → Int32), (vp_in p 16 → r = 0 ∧ (b8 p.toNatClampNeg = 0 ↔ q = 0) ∧ ∀ j, j ≠ p.toNatClampNeg → b8 j = 0) → (¬ vp_in p 16 → r = -1 ∧ ∀ j, b8 j = 0) → post r (c, le, rd, ln, vi, a1, a2, a3, a4, a5, a6, a7, b8, a9, a10, a11, a12, a13, a14, a15, a16, a17, a18)) : wpX_bar post (c, le, rd, ln, vi, a1, a2, a3, a4, a5, a6, a7, a8, a9, a10, a11, a12, a13, a14, a15, a16, a17, a18) p q :=
  sl_bar h8 (fun z b hb => H 0 _ (fun _ => ⟨rfl, by rw [pk_us]; exact hb, fun j hj => (pk_un hj).trans (h8 j)⟩) (fun t => absurd z t)) (fun z => H (-1) _ (fun t => absurd t z) (fun _ => ⟨rfl, h8⟩))
theorem sl_reg2 {post : Int32 → Prop} {p : Int32} {c le rd ln vi : Int32} {a1 a2 a3 a4 a5 a6 a7 a8 a9 a10 a11 a12 a13 a14 a15 a16 a17 a18 : Nat → Int32} (H : ∀ r, (vp_in p 8 → r = a6 p.toNatClampNeg) → (¬ vp_in p 8 → r = 0) → post r) : wpX_register post (c, le, rd, ln, vi, a1, a2, a3, a4, a5, a6, a7, a8, a9, a10, a11, a12, a13, a14, a15, a16, a17, a18) p :=
  sl_register (fun z => H _ (fun _ => rfl) (fun t => absurd z t)) (fun z => H _ (fun t => absurd t z) (fun _ => rfl))
theorem sl_word2 {post : Int32 → Prop} {p : Int32} {c le rd ln vi : Int32} {a1 a2 a3 a4 a5 a6 a7 a8 a9 a10 a11 a12 a13 a14 a15 a16 a17 a18 : Nat → Int32} (H : ∀ r, (vp_in p 16 → r = a7 p.toNatClampNeg) → (¬ vp_in p 16 → r = 0) → post r) : wpX_word post (c, le, rd, ln, vi, a1, a2, a3, a4, a5, a6, a7, a8, a9, a10, a11, a12, a13, a14, a15, a16, a17, a18) p :=
  sl_word (fun z => H _ (fun _ => rfl) (fun t => absurd z t)) (fun z => H _ (fun t => absurd t z) (fun _ => rfl))
theorem sl_inj {x y : Int32} (hx : vp_in x 16) (hy : vp_in y 16) (h : x.toNatClampNeg = y.toNatClampNeg) : x = y := by
  obtain ⟨j, hj, rfl⟩ := vp_in_of hx (by omega)
  obtain ⟨k, hk, rfl⟩ := vp_in_of hy (by omega)
  rw [nI_clamp (by omega), nI_clamp (by omega)] at h
  rw [h]
theorem sl_okI {x t on : Int32} {b8 : Nat → Int32} (h1 : vp_in x 16 → (b8 x.toNatClampNeg = 0 ↔ on = 0) ∧ ∀ j, j ≠ x.toNatClampNeg → b8 j = 0) (h2 : ¬ vp_in x 16 → ∀ j, b8 j = 0) :
    sl_ok b8 t ↔ ¬ (¬ vp_in t 16 ∨ (sl_HR x t ∧ ¬ on = 0)) := by
  constructor
  · intro h g
    obtain ⟨i, e⟩ := h
    rcases g with g | ⟨⟨xi, ex⟩, n⟩
    · exact g i
    · subst ex
      exact n ((h1 xi).1.mp e)
  · intro g
    by_cases i : vp_in t 16
    · refine ⟨i, ?_⟩
      by_cases xi : vp_in x 16
      · by_cases ex : t = x
        · by_cases n : on = 0
          · subst ex
            exact (h1 xi).1.mpr n
          · exact absurd (Or.inr ⟨⟨xi, ex⟩, n⟩) g
        · exact (h1 xi).2 _ (fun z => ex (sl_inj i xi z))
      · exact h2 xi _
    · exact absurd (Or.inl i) g
theorem sl_lawOf (a base o x v on : Int32) : wpL_lawOf (fun r _ => r = 1) 178 2848 () a base o x v on := by
  refine ⟨by omega, by omega, 18, 300, by omega, by omega, sl_init ?_⟩
  refine sl_setR2 (fun st b6 hs1 hs2 => ?_)
  refine sl_setW2 (fun _ => rfl) (fun pu b7 hp1 hp2 => ?_)
  refine sl_bar2 (fun _ => rfl) (fun ba b8 hb1 hb2 => ?_)
  have K := sl_okI (t := base + o) (fun z => (hb1 z).2) (fun z => (hb2 z).2)
  refine sl_load (fun ia o1 o2 => sl_last ?_) (fun hn => sl_last ?_)
  · have hL : sl_LD a o := ⟨ia, o1, o2⟩
    obtain ⟨i, hi, ea⟩ := vp_in_of ia (by omega)
    have ci : a.toNatClampNeg = i := by rw [ea]; exact nI_clamp (by omega)
    have g6 : b6 i = base := by rw [← ci]; exact (hs1 ia).2
    refine sl_run1 (x := base + o) (i := i) hi pk_us (pk_us.trans ea) (pk_us.trans ea) (by rw [g6, pk_us]) (fun ok => ?_) (fun nok => ?_)
    · have nf : ¬ sl_FT a o x on (base + o) := fun t => K.mp ok t.2
      intros
      refine sl_reg2 (fun no g1 g2 => sl_word2 (fun wo y1 y2 => sl_last ?_))
      have gn : no = b7 (base + o).toNatClampNeg := by rw [g1 ia, ci, pk_us]
      refine sl_fin (fun z => (hs1 z).1) hs2 (fun z => (hp1 z).1) (fun z => (hp2 z).1) (fun z => (hb1 z).1) (fun z => (hb2 z).1) (fun _ => rfl) (fun z => absurd hL z) rfl (fun z => absurd z nf) (fun _ => rfl) rfl
        g2 (fun _ z => z.elim (fun t => absurd hL t) (fun t => absurd t nf)) (fun _ _ z => ?_) (fun _ _ z => ?_) (fun z => (y1 z).trans (hp1 z).2.1) y2
      · rw [gn]
        by_cases xi : vp_in x 16
        · exact (hp1 xi).2.2 _ (fun e => z ⟨xi, sl_inj ok.1 xi e⟩)
        · exact (hp2 xi).2 _
      · rw [gn, z.2]
        exact (hp1 z.1).2.1
    · have ft : sl_FT a o x on (base + o) := ⟨hL, Classical.byContradiction (fun t => nok (K.mpr t))⟩
      intros
      refine sl_reg2 (fun no g1 g2 => sl_word2 (fun wo y1 y2 => sl_last ?_))
      have gn : no = base := by rw [g1 ia, ci, g6]
      exact sl_fin (fun z => (hs1 z).1) hs2 (fun z => (hp1 z).1) (fun z => (hp2 z).1) (fun z => (hb1 z).1) (fun z => (hb2 z).1) (fun _ => rfl) (fun z => absurd hL z) rfl (fun _ => rfl) (fun z => absurd ft z) rfl
        g2 (fun _ _ => gn) (fun _ z => absurd ft z) (fun _ z => absurd ft z) (fun z => (y1 z).trans (hp1 z).2.1) y2
  · have nL : ¬ sl_LD a o := hn
    have nf : ¬ sl_FT a o x on (base + o) := fun t => nL t.1
    refine sl_runN ?_
    intros
    refine sl_reg2 (fun no g1 g2 => sl_word2 (fun wo y1 y2 => sl_last ?_))
    exact sl_fin (fun z => (hs1 z).1) hs2 (fun z => (hp1 z).1) (fun z => (hp2 z).1) (fun z => (hb1 z).1) (fun z => (hb2 z).1) (fun z => absurd z nL) (fun _ => rfl) rfl (fun z => absurd z nf) (fun _ => rfl) rfl
      g2 (fun z _ => (g1 z).trans (hs1 z).2) (fun z => absurd z nL) (fun z => absurd z nL) (fun z => (y1 z).trans (hp1 z).2.1) y2
theorem sl_cell {post : Int32 → Prop} {L : Nat} {xs : Nat → Int32} {p : Int32} (k : Nat) (hL : L ≤ 6) (hk : k ≤ 5) (hp : p = nI k) (H : ∀ r, post r) : wpL_cellAt post L xs () p :=
  pk_le L k (fun _ => H _) (fun z => ⟨pk_in k L z hp, H _⟩) rfl hp
end
section
theorem i_vc (xs : Nat → Int32) (L : Nat) (hL : L ≤ 6) : wpL_law (fun r => r = 1) L xs :=
  sl_cell 0 hL (by omega) rfl (fun r1 => sl_cell 1 hL (by omega) rfl (fun r2 => sl_cell 2 hL (by omega) rfl (fun r3 => sl_cell 3 hL (by omega) rfl (fun r4 => sl_cell 4 hL (by omega) rfl (fun r5 => sl_cell 5 hL (by omega) rfl (fun r6 => ⟨178, 2848, by omega, by omega, sl_lawOf r1 r2 r3 r4 r5 r6⟩))))))
end
