section
/-! words as naturals (rows wb_* : of the kit's BITS, to paste) -/
theorem wb_tb (n : Nat) : (lN n).toBitVec = BitVec.ofNat 64 n := rfl
theorem wb_inj {a b : Int64} (h : a.toBitVec = b.toBitVec) : a = b := Int64.toBitVec_inj.mp h
theorem wb_tn {n : Nat} (h : n < 2 ^ 64) : (lN n).toBitVec.toNat = n := by rw [wb_tb, BitVec.toNat_ofNat, Nat.mod_eq_of_lt h]
theorem wb_cu : ∀ k, k < 64 → ((nI k).toInt64.toUInt64 &&& Int64.toUInt64 63) = UInt64.ofNat k := by decide +kernel
theorem wb_lt2 {a b : Nat} (h : a < b) : 2 ^ a < 2 ^ b := Nat.pow_lt_pow_right (by decide) h
theorem wb_shr {n k : Nat} (hn : n < 2 ^ 64) (hk : k < 64) : ((lN n).toUInt64 >>> ((nI k).toInt64.toUInt64 &&& Int64.toUInt64 63)).toInt64 = lN (n / 2 ^ k) := by
  rw [wb_cu k hk]
  apply wb_inj
  apply BitVec.eq_of_toNat_eq
  show ((lN n).toUInt64 >>> UInt64.ofNat k).toNat = (BitVec.ofNat 64 _).toNat
  have h1 : (UInt64.ofNat k).toNat = k := by
    show (BitVec.ofNat 64 k).toNat = k
    rw [BitVec.toNat_ofNat, Nat.mod_eq_of_lt (by omega)]
  have h2 : (lN n).toUInt64.toNat = n := wb_tn hn
  rw [UInt64.toNat_shiftRight, h1, h2, Nat.mod_eq_of_lt hk, Nat.shiftRight_eq_div_pow, BitVec.toNat_ofNat, Nat.mod_eq_of_lt (Nat.lt_of_le_of_lt (Nat.div_le_self _ _) hn)]
theorem wb_and {a b : Nat} (ha : a < 2 ^ 64) (hb : b < 2 ^ 64) : lN a &&& lN b = lN (a &&& b) := by
  apply wb_inj
  rw [Int64.toBitVec_and, wb_tb, wb_tb, wb_tb]
  apply BitVec.eq_of_toNat_eq
  rw [BitVec.toNat_and, BitVec.toNat_ofNat, BitVec.toNat_ofNat, BitVec.toNat_ofNat, Nat.mod_eq_of_lt ha, Nat.mod_eq_of_lt hb, Nat.mod_eq_of_lt (Nat.and_lt_two_pow _ hb)]
theorem wb_mask {n k : Nat} (hn : n < 2 ^ 64) (hk : k < 64) : lN n &&& lN (2 ^ k - 1) = lN (n % 2 ^ k) := by
  rw [wb_and hn (by have := wb_lt2 hk; omega), Nat.and_two_pow_sub_one_eq_mod]
theorem wb_a1 {n : Nat} (hn : n < 2 ^ 64) : lN n &&& 1 = lN (n % 2) := wb_mask (k := 1) hn (by decide)
theorem wb_bit {n k : Nat} (hn : n < 2 ^ 64) (hk : k < 64) : ((lN n).toUInt64 >>> ((nI k).toInt64.toUInt64 &&& Int64.toUInt64 63)).toInt64 &&& 1 = lN (n / 2 ^ k % 2) := by
  rw [wb_shr hn hk, wb_a1 (Nat.lt_of_le_of_lt (Nat.div_le_self _ _) hn)]
/-! own rows -/
theorem sq_or (a b : Nat) : lN a ||| lN b = lN (a ||| b) := wb_inj (by rw [Int64.toBitVec_or, wb_tb, wb_tb, wb_tb, BitVec.ofNat_or])
theorem sq_and (a b : Nat) : lN a &&& lN b = lN (a &&& b) := wb_inj (by rw [Int64.toBitVec_and, wb_tb, wb_tb, wb_tb, BitVec.ofNat_and])
theorem sq_xor (a b : Nat) : lN a ^^^ lN b = lN (a ^^^ b) := wb_inj (by rw [Int64.toBitVec_xor, wb_tb, wb_tb, wb_tb, BitVec.ofNat_xor])
theorem sq_1 : ∀ k, k < 36 → (1 : Int64) <<< ((nI k).toInt64 &&& 63) = lN (2 ^ k) := by decide +kernel
theorem sq_m1 : (-1 : Int64) = lN (2 ^ 64 - 1) := by decide +kernel
/-- a bit is cleared -/
theorem sq_clr (w : Nat) {k : Nat} (hk : k < 36) : lN w &&& (((1 : Int64) <<< ((nI k).toInt64 &&& 63)) ^^^ (-1)) = lN (w &&& (2 ^ k ^^^ (2 ^ 64 - 1))) := by
  rw [sq_1 k hk, sq_m1, sq_xor, sq_and]
/-- a bit is asked -/
theorem sq_bit {n k : Nat} (hn : n < 2 ^ 36) (hk : k < 36) : (((lN n).toUInt64 >>> ((nI k).toInt64.toUInt64 &&& Int64.toUInt64 63)).toInt64 &&& 1) = 1 ↔ n.testBit k = true := by
  rw [wb_bit (by omega) (by omega), Nat.testBit_eq_decide_div_mod_eq, decide_eq_true_iff]
  constructor
  · intro h
    rcases Nat.mod_two_eq_zero_or_one (n / 2 ^ k) with e | e
    · rw [e] at h
      exact absurd h (by decide)
    · exact e
  · intro h
    rw [h]
    rfl
theorem sq_z {a b : Nat} (hb : b < 2 ^ 36) : lN a &&& lN b = 0 ↔ a &&& b = 0 := by
  have h1 : a &&& b ≤ b := Nat.and_le_right
  rw [sq_and]
  show lN (a &&& b) = lN 0 ↔ _
  rw [pk_lEQ (by omega) (by decide)]
theorem sq_eq {a b : Nat} (ha : a < 2 ^ 36) (hb : b < 2 ^ 36) : lN a = lN b ↔ a = b := pk_lEQ (by omega) (by omega)
/-- the word of the places below n that p takes, joined to f -/
def sq_w (f : Nat) (p : Nat → Bool) : Nat → Nat
  | 0 => f
  | n + 1 => sq_w f p n ||| (if p n then 2 ^ n else 0)
theorem sq_wt {f : Nat} {p : Nat → Bool} {i : Nat} (h : p i = true) : sq_w f p (i + 1) = sq_w f p i ||| 2 ^ i := by
  show sq_w f p i ||| (if p i then 2 ^ i else 0) = _
  rw [if_pos h]
theorem sq_wn {f : Nat} {p : Nat → Bool} {i : Nat} (h : p i = false) : sq_w f p (i + 1) = sq_w f p i := by
  show sq_w f p i ||| (if p i then 2 ^ i else 0) = _
  rw [h, if_neg (by decide), Nat.or_zero]
/-- joined in the code: the step where p holds -/
theorem sq_wj {f : Nat} {p : Nat → Bool} {i : Nat} (hi : i < 36) (h : p i = true) : lN (sq_w f p i) ||| ((1 : Int64) <<< ((nI i).toInt64 &&& 63)) = lN (sq_w f p (i + 1)) := by
  rw [sq_1 i hi, sq_or, sq_wt h]
/-- what is shown or owned: 36 is none -/
def sq_s (c : Nat) : Int32 := if c = 36 then -2 else nI c
theorem sq_s_eq : ∀ a, a < 37 → ∀ b, b < 37 → (sq_s a = sq_s b ↔ a = b) := by decide +kernel
theorem sq_s_n : sq_s 36 = -2 := rfl
theorem sq_s_lt {c : Nat} (h : c ≠ 36) : sq_s c = nI c := if_neg h
/-- an array is written at i -/
theorem sq_up {α : Type} {s f : Nat → α} {i : Nat} {t : Nat → α} (ht : t i = f i) (hu : ∀ j, j ≠ i → t j = s j) (h : ∀ j, j < i → s j = f j) : ∀ j, j < i + 1 → t j = f j := by
  intro j hj
  by_cases e : j = i
  · rw [e, ht]
  · rw [hu j e]
    exact h j (by omega)
theorem sq_fill {s f : Nat → Int32} {i k : Nat} {x : Int32} (hk : k = i) (h : ∀ j, j < i → s j = f j) (hx : x = f i) : ∀ j, j < i + 1 → upd s k x j = f j := by
  subst hk
  exact sq_up (by rw [pk_us, hx]) (fun j e => pk_un e) h
theorem sq_fillL {s f : Nat → Int64} {i k : Nat} {x : Int64} (hk : k = i) (h : ∀ j, j < i → s j = f j) (hx : x = f i) : ∀ j, j < i + 1 → vp_updL s k x j = f j := by
  subst hk
  exact sq_up (by rw [pk_uLs, hx]) (fun j e => pk_uLn e) h
theorem sq_rest {s f : Nat → Int32} {i k : Nat} {x : Int32} (hk : k = i) (h : ∀ j, i ≤ j → j < 36 → s j = f j) : ∀ j, i + 1 ≤ j → j < 36 → upd s k x j = f j := by
  subst hk
  intro j h1 h2
  rw [pk_un (by omega)]
  exact h j (by omega) h2
theorem sq_restL {s f : Nat → Int64} {i k : Nat} {x : Int64} (hk : k = i) (h : ∀ j, i ≤ j → j < 36 → s j = f j) : ∀ j, i + 1 ≤ j → j < 36 → vp_updL s k x j = f j := by
  subst hk
  intro j h1 h2
  rw [pk_uLn (by omega)]
  exact h j (by omega) h2
theorem sq_c {i : Nat} (h : i < 36) : (nI i).toNatClampNeg = i := nI_clamp (by omega)
end
section
/-! moved, rectangleSet, areaOf, cover, layOut -/
theorem sq_mv {post : Int32 → Prop} {c d r : Int32} (x y : Int32) (hx : c / 6 + d = x) (hy : (c - c / 6 * 6) + r = y) (x0 : ¬ x < 0) (x6 : ¬ 6 ≤ x) (y0 : ¬ y < 0) (y6 : ¬ 6 ≤ y) (H : post ((6 * x) + y)) : wpX_moved post () c d r :=
  ⟨by decide, nm_r hx ⟨by decide, nm_r hy (br_f x0 (br_f x6 (br_f y0 (br_f y6 (br_f (by decide) H)))))⟩⟩
/-- the rectangle 14 .. 21: one row -/
theorem sq_rs2 {post : Int64 → Prop} {J : Int64 → Int32 → Prop} {x x' x'' : Int64} {y y1 : Int32} (hx' : x ||| ((1 : Int64) <<< (((6 * y) + 2).toInt64 &&& 63)) = x') (hx'' : x' ||| ((1 : Int64) <<< (((6 * y) + 3).toInt64 &&& 63)) = x'') (hy : y + 1 = y1) (H : J x'' y1) : wX_rectangleSet_23 post J (nI 14) (nI 21) y 3 x 2 :=
  ⟨by decide, br_f (by decide +kernel) (nm_r hx' (nm_r (show (2 : Int32) + 1 = 3 by decide) ⟨by decide, br_f (by decide +kernel) (nm_r hx'' (nm_r (show (3 : Int32) + 1 = 4 by decide) ⟨by decide, br_t (by decide +kernel) (nm_r hy H)⟩))⟩))⟩
theorem sq_rs {post : Int64 → Prop} {p q : Int32} (hp : p = nI 14) (hq : q = nI 21) (H : post (lN 3194880)) : wpX_rectangleSet post () p q := by
  subst hp hq
  refine ⟨by decide, nm_r (show nI 14 / 6 = 2 by decide +kernel) ⟨3, ?_⟩⟩
  refine ⟨by decide, br_f (by decide +kernel) ⟨by decide, nm_r (show nI 14 - nI 14 / 6 * 6 = 2 by decide +kernel) ⟨3, sq_rs2 (x' := lN 16384) (x'' := lN 49152) (y1 := 3) (by decide +kernel) (by decide +kernel) (by decide) ?_⟩⟩⟩
  refine ⟨by decide, br_f (by decide +kernel) ⟨by decide, nm_r (show nI 14 - nI 14 / 6 * 6 = 2 by decide +kernel) ⟨3, sq_rs2 (x' := lN 1097728) (x'' := lN 3194880) (y1 := 4) (by decide +kernel) (by decide +kernel) (by decide) ?_⟩⟩⟩
  exact ⟨by decide, br_t (by decide +kernel) H⟩
theorem sq_ar {post : Int64 → Prop} {f : Int64} {a1 a2 a3 a4 a5 a6 a7 a8 : Nat → Int32} {a9 a10 : Nat → Int64} {a11 a12 a13 : Nat → Int32} (ha : a2 14 = nI 0) (hb : a3 14 = nI 7) (H : post (lN 3194880)) : wpX_areaOf post (f, a1, a2, a3, a4, a5, a6, a7, a8, a9, a10, a11, a12, a13) (nI 14) := by
  have e : (nI 14).toNatClampNeg = 14 := sq_c (by decide)
  refine ⟨pk_in 14 36 (by decide), by decide, pk_in 14 36 (by decide), by decide, nm_r (e' := 1) (by rw [e, ha, hb]; decide +kernel) ⟨pk_in 14 36 (by decide), by decide, pk_in 14 36 (by decide), by decide, nm_r (e' := 1) (by rw [e, ha, hb]; decide +kernel) ?_⟩⟩
  exact sq_mv 3 3 (by decide +kernel) (by decide +kernel) (by decide) (by decide) (by decide) (by decide) (br_t (by decide) (sq_rs rfl (by decide +kernel) H))
def sq_O (j : Nat) : Nat := if j = 14 ∨ j = 15 ∨ j = 20 ∨ j = 21 then 14 else 36
def sq_S (j : Nat) : Nat := if j = 14 then 0 else if j = 15 then 1 else if j = 20 then 6 else if j = 21 then 7 else 36
theorem sq_a4 : ∀ i, i < 36 → (3194880 : Nat).testBit i = true → i = 14 ∨ i = 15 ∨ i = 20 ∨ i = 21 := by decide +kernel
theorem sq_a0 : ∀ i, i < 36 → ¬ (3194880 : Nat).testBit i = true → sq_O i = 36 ∧ sq_S i = 36 := by decide +kernel
theorem sq_mvc {P : Int32 → Prop} {i : Nat} (h : i = 14 ∨ i = 15 ∨ i = 20 ∨ i = 21) (H : P (sq_s (sq_S i))) : wpX_moved P () (nI 0) ((nI i / 6) - (nI 14 / 6)) ((nI i - nI i / 6 * 6) - (nI 14 - nI 14 / 6 * 6)) := by
  rcases h with e | e | e | e
  · subst e
    exact sq_mv 0 0 (by decide +kernel) (by decide +kernel) (by decide) (by decide) (by decide) (by decide) H
  · subst e
    exact sq_mv 0 1 (by decide +kernel) (by decide +kernel) (by decide) (by decide) (by decide) (by decide) H
  · subst e
    exact sq_mv 1 0 (by decide +kernel) (by decide +kernel) (by decide) (by decide) (by decide) (by decide) H
  · subst e
    exact sq_mv 1 1 (by decide +kernel) (by decide +kernel) (by decide) (by decide) (by decide) (by decide) H
theorem sq_cov {post : St2 → Prop} {f : Int64} {a1 a2 a3 a4 a5 a6 a7 a8 : Nat → Int32} {a9 a10 : Nat → Int64} {a11 a12 a13 : Nat → Int32} (ha : a2 14 = nI 0) (h5 : ∀ j, j < 36 → a5 j = -2) (h6 : ∀ j, j < 36 → a6 j = -2)
    (H : ∀ b5 b6 : Nat → Int32, (∀ j, j < 36 → b5 j = sq_s (sq_O j)) → (∀ j, j < 36 → b6 j = sq_s (sq_S j)) → post (f, a1, a2, a3, a4, b5, b6, a7, a8, a9, a10, a11, a12, a13)) : wpX_cover post (f, a1, a2, a3, a4, a5, a6, a7, a8, a9, a10, a11, a12, a13) (nI 14) (lN 3194880) := by
  refine pk_loop (fun n i (s : (Nat → Int32) × (Nat → Int32)) => wX_cover_3 post (nI 14) (lN 3194880) f n (nI i) a1 a2 a3 a4 s.1 s.2 a7 a8 a9 a10 a11 a12 a13)
    (fun i s => (∀ j, j < i → s.1 j = sq_s (sq_O j)) ∧ (∀ j, j < i → s.2 j = sq_s (sq_S j)) ∧ (∀ j, i ≤ j → j < 36 → s.1 j = -2) ∧ (∀ j, i ≤ j → j < 36 → s.2 j = -2)) 36 0 (a5, a6) (by omega) ⟨lt_0, lt_0, fun j _ hj => h5 j hj, fun j _ hj => h6 j hj⟩ ?_ ?_
  · intro n s h
    exact pk_le 36 36 (fun _ => H _ _ h.1 h.2.1) (fun z => absurd z (by omega))
  · intro n i s hi h hw
    obtain ⟨i5, i6, k5, k6⟩ := h
    have e14 : (nI 14).toNatClampNeg = 14 := sq_c (by decide)
    refine pk_le 36 i (fun z => absurd z (by omega)) (fun _ => ?_)
    by_cases g : (3194880 : Nat).testBit i = true
    · have g4 := sq_a4 i hi g
      have hO : sq_O i = 14 := if_pos g4
      refine br_t ((sq_bit (by decide) hi).mpr g) ⟨pk_in i 36 hi, nm_e ⟨pk_in 14 36 (by decide), by decide, by decide, by decide, by decide, ?_⟩⟩
      rw [e14, ha]
      refine sq_mvc g4 ⟨pk_in i 36 hi, nm_e (nm_r (nI_1 i) (hw (_, _) ⟨?_, ?_, ?_, ?_⟩))⟩
      · exact sq_fill (f := fun j => sq_s (sq_O j)) (sq_c hi) i5 (by show _ = sq_s (sq_O i); rw [hO]; rfl)
      · exact sq_fill (f := fun j => sq_s (sq_S j)) (sq_c hi) i6 rfl
      · exact sq_rest (f := fun _ => -2) (sq_c hi) k5
      · exact sq_rest (f := fun _ => -2) (sq_c hi) k6
    · have g0 := sq_a0 i hi g
      refine br_f (fun z => g ((sq_bit (by decide) hi).mp z)) (nm_r (nI_1 i) (hw s ⟨?_, ?_, ?_, ?_⟩))
      · exact lt_s i5 (by rw [g0.1]; exact k5 i (Nat.le_refl i) hi)
      · exact lt_s i6 (by rw [g0.2]; exact k6 i (Nat.le_refl i) hi)
      · exact fun j h1 h2 => k5 j (by omega) h2
      · exact fun j h1 h2 => k6 j (by omega) h2
/-- layOut, the last loop: what shows something else is new -/
theorem sq_l172 {post : St2 → Prop} {f : Nat} {a1 a2 a3 a4 a5 a6 a7 a8 : Nat → Int32} {a9 a10 : Nat → Int64} {a11 a12 a13 : Nat → Int32} {S S' : Nat → Nat} (b : ∀ j, j < 36 → S j < 37 ∧ S' j < 37) (h6 : ∀ j, j < 36 → a6 j = sq_s (S' j)) (h7 : ∀ j, j < 36 → a7 j = sq_s (S j))
    (H : post (lN (sq_w f (fun i => decide (S' i ≠ S i)) 36), a1, a2, a3, a4, a5, a6, a7, a8, a9, a10, a11, a12, a13)) : ∃ n, wX_layOut_172 post a1 a2 a3 a4 a5 a6 a7 a8 a9 a10 a11 a12 a13 n 0 (lN f) := by
  refine pk_loop (σ := Unit) (fun n i _ => wX_layOut_172 post a1 a2 a3 a4 a5 a6 a7 a8 a9 a10 a11 a12 a13 n (nI i) (lN (sq_w f (fun i => decide (S' i ≠ S i)) i))) (fun _ _ => True) 36 0 () (by omega) trivial ?_ ?_
  · intro n _ _
    exact pk_le 36 36 (fun _ => H) (fun z => absurd z (by omega))
  · intro n i _ hi _ hw
    have t := hw () trivial
    try dsimp only at t
    refine pk_le 36 i (fun z => absurd z (by omega)) (fun _ => ⟨pk_in i 36 hi, pk_in i 36 hi, ?_⟩)
    rw [sq_c hi, h6 i hi, h7 i hi]
    by_cases g : S' i = S i
    · rw [sq_wn (by simp [g])] at t
      exact br_t (by rw [g]) (nm_r (nI_1 i) t)
    · exact br_f (fun z => g ((sq_s_eq _ (b i hi).2 _ (b i hi).1).mp z)) (nm_r (sq_wj hi (by simp [g])) (nm_r (nI_1 i) t))
/-- layOut, the spreads: there is none -/
theorem sq_l75n {post : St2 → Prop} {f x1 : Int64} {a1 a2 a3 a4 a5 a6 a7 a8 : Nat → Int32} {a9 a10 : Nat → Int64} {a11 a12 a13 : Nat → Int32} {K : Nat → Nat} (h1 : ∀ j, j < 36 → a1 j = nI (K j)) (hK : ∀ j, j < 36 → K j < 7) (h5 : ∀ j, j < 36 → K j ≠ 5)
    (H : ∃ n, wX_layOut_172 post a1 a2 a3 a4 a5 a6 a7 a8 a9 a10 a11 a12 a13 n 0 f) : ∃ n, wX_layOut_75 post x1 n 0 0 f a1 a2 a3 a4 a5 a6 a7 a8 a9 a10 a11 a12 a13 := by
  refine pk_loop (σ := Unit) (fun n i _ => wX_layOut_75 post x1 n 0 (nI i) f a1 a2 a3 a4 a5 a6 a7 a8 a9 a10 a11 a12 a13) (fun _ _ => True) 36 0 () (by omega) trivial ?_ ?_
  · intro n _ _
    exact pk_le 36 36 (fun _ => H) (fun z => absurd z (by omega))
  · intro n i _ hi _ hw
    have t := hw () trivial
    refine pk_le 36 i (fun z => absurd z (by omega)) (fun _ => ⟨pk_in i 36 hi, ?_⟩)
    rw [sq_c hi, h1 i hi]
    have b := hK i hi
    exact pk_eq (K i) 5 (fun z => absurd z (h5 i hi)) (fun _ => nm_r (nI_1 i) t)
theorem sq_l75o {post : St2 → Prop} {f : Int64} {F : Nat} {a1 a2 a3 a4 a5 a6 a7 a8 : Nat → Int32} {a9 a10 : Nat → Int64} {a11 a12 a13 : Nat → Int32} {K : Nat → Nat} (h1 : ∀ j, j < 36 → a1 j = nI (K j)) (hK : ∀ j, j < 36 → K j < 7) (h5 : ∀ j, j < 36 → (K j = 5 ↔ j = 14))
    (ha : a2 14 = nI 0) (hb : a3 14 = nI 7) (hF : F < 2 ^ 36) (hx : 3178496 &&& F = 0) (h5' : ∀ j, j < 36 → a5 j = -2) (h6' : ∀ j, j < 36 → a6 j = -2)
    (H : ∀ b5 b6 : Nat → Int32, (∀ j, j < 36 → b5 j = sq_s (sq_O j)) → (∀ j, j < 36 → b6 j = sq_s (sq_S j)) → ∃ n, wX_layOut_172 post a1 a2 a3 a4 b5 b6 a7 a8 a9 a10 a11 a12 a13 n 0 f) : ∃ n, wX_layOut_75 post (lN F) n 0 0 f a1 a2 a3 a4 a5 a6 a7 a8 a9 a10 a11 a12 a13 := by
  refine pk_loop (fun n i (s : Int64 × (Nat → Int32) × (Nat → Int32)) => wX_layOut_75 post (lN F) n s.1 (nI i) f a1 a2 a3 a4 s.2.1 s.2.2 a7 a8 a9 a10 a11 a12 a13)
    (fun i s => (i ≤ 14 → s = (0, a5, a6)) ∧ (14 < i → (∀ j, j < 36 → s.2.1 j = sq_s (sq_O j)) ∧ (∀ j, j < 36 → s.2.2 j = sq_s (sq_S j)))) 36 0 (0, a5, a6) (by omega) ⟨fun _ => rfl, fun z => absurd z (by omega)⟩ ?_ ?_
  · intro n s h
    exact pk_le 36 36 (fun _ => H _ _ (h.2 (by omega)).1 (h.2 (by omega)).2) (fun z => absurd z (by omega))
  · intro n i s hi h hw
    refine pk_le 36 i (fun z => absurd z (by omega)) (fun _ => ⟨pk_in i 36 hi, ?_⟩)
    rw [sq_c hi, h1 i hi]
    have b := hK i hi
    refine pk_eq (K i) 5 (fun z => ?_) (fun z => nm_r (nI_1 i) (hw s ⟨fun g => h.1 (by omega), fun g => h.2 ?_⟩))
    · have e := (h5 i hi).mp z
      subst e
      have es := h.1 (Nat.le_refl 14)
      subst es
      refine sq_ar ha hb (nm_r (e' := lN 3178496) (by decide +kernel) (br_f (by decide +kernel) (br_t ((sq_z hF).mpr hx) (br_t (by show lN 3194880 &&& (0 : Int64) = 0; decide +kernel) (nm_e ?_)))))
      exact sq_cov ha h5' h6' (fun b5 b6 q5 q6 => nm_r (nI_1 14) (hw (_, _, _) ⟨fun g => absurd g (by omega), fun _ => ⟨q5, q6⟩⟩))
    · have : i ≠ 14 := fun e => z ((h5 i hi).mpr e)
      omega
theorem sq_l75b {post : St2 → Prop} {f : Int64} {F : Nat} {a1 a2 a3 a4 a5 a6 a7 a8 : Nat → Int32} {a9 a10 : Nat → Int64} {a11 a12 a13 : Nat → Int32} {K : Nat → Nat} (h1 : ∀ j, j < 36 → a1 j = nI (K j)) (hK : ∀ j, j < 36 → K j < 7) (h5 : ∀ j, j < 36 → (K j = 5 ↔ j = 14))
    (ha : a2 14 = nI 0) (hb : a3 14 = nI 7) (hF : F < 2 ^ 36) (hx : ¬ 3178496 &&& F = 0) (h8' : ∀ j, j < 36 → a8 j = 0)
    (H : ∀ b8 : Nat → Int32, (∀ j, j < 36 → b8 j = nI (if j = 14 then 1 else 0)) → ∃ n, wX_layOut_172 post a1 a2 a3 a4 a5 a6 a7 b8 a9 a10 a11 a12 a13 n 0 f) : ∃ n, wX_layOut_75 post (lN F) n 0 0 f a1 a2 a3 a4 a5 a6 a7 a8 a9 a10 a11 a12 a13 := by
  refine pk_loop (fun n i (s : Nat → Int32) => wX_layOut_75 post (lN F) n 0 (nI i) f a1 a2 a3 a4 a5 a6 a7 s a9 a10 a11 a12 a13)
    (fun i s => (i ≤ 14 → s = a8) ∧ (14 < i → (∀ j, j < 36 → s j = nI (if j = 14 then 1 else 0)))) 36 0 a8 (by omega) ⟨fun _ => rfl, fun z => absurd z (by omega)⟩ ?_ ?_
  · intro n s h
    exact pk_le 36 36 (fun _ => H _ (h.2 (by omega))) (fun z => absurd z (by omega))
  · intro n i s hi h hw
    refine pk_le 36 i (fun z => absurd z (by omega)) (fun _ => ⟨pk_in i 36 hi, ?_⟩)
    rw [sq_c hi, h1 i hi]
    have b := hK i hi
    refine pk_eq (K i) 5 (fun z => ?_) (fun z => nm_r (nI_1 i) (hw s ⟨fun g => h.1 (by omega), fun g => h.2 ?_⟩))
    · have e := (h5 i hi).mp z
      subst e
      have es := h.1 (Nat.le_refl 14)
      subst es
      refine sq_ar ha hb (nm_r (e' := lN 3178496) (by decide +kernel) (br_f (by decide +kernel) (br_f (fun q => hx ((sq_z hF).mp q)) ?_)))
      refine ⟨pk_in 14 36 (by decide), nm_e (nm_r (nI_1 14) (hw _ ⟨fun g => absurd g (by omega), fun _ j hj => ?_⟩))⟩
      rw [sq_c (by decide)]
      by_cases e : j = 14
      · rw [e, pk_us]
        rfl
      · rw [pk_un e, h8' j hj, if_neg e]
        rfl
    · have : i ≠ 14 := fun e => z ((h5 i hi).mpr e)
      omega
/-- layOut, the first loop -/
theorem sq_l4 {post : St2 → Prop} {f : Int64} {a1 a2 a3 a4 a5 a6 a7 a8 : Nat → Int32} {a9 a10 : Nat → Int64} {a11 a12 a13 : Nat → Int32} {K : Nat → Nat} (h1 : ∀ j, j < 36 → a1 j = nI (K j)) (hK : ∀ j, j < 36 → K j < 7)
    (H : ∀ b5 b6 b7 b8 : Nat → Int32, (∀ j, j < 36 → b5 j = -2) → (∀ j, j < 36 → b6 j = -2) → (∀ j, j < 36 → b7 j = a6 j) → (∀ j, j < 36 → b8 j = 0) →
      ∃ n, wX_layOut_75 post (lN (sq_w 0 (fun i => decide (K i ≠ 0)) 36)) n 0 0 f a1 a2 a3 a4 b5 b6 b7 b8 a9 a10 a11 a12 a13) : wpX_layOut post (f, a1, a2, a3, a4, a5, a6, a7, a8, a9, a10, a11, a12, a13) := by
  refine pk_loop (fun n i (s : (Nat → Int32) × (Nat → Int32) × (Nat → Int32) × (Nat → Int32)) => wX_layOut_4 post f n (lN (sq_w 0 (fun i => decide (K i ≠ 0)) i)) (nI i) a1 a2 a3 a4 s.1 s.2.1 s.2.2.1 s.2.2.2 a9 a10 a11 a12 a13)
    (fun i s => (∀ j, j < i → s.1 j = -2) ∧ (∀ j, j < i → s.2.1 j = -2) ∧ (∀ j, j < i → s.2.2.1 j = a6 j) ∧ (∀ j, j < i → s.2.2.2 j = 0) ∧ (∀ j, i ≤ j → j < 36 → s.2.1 j = a6 j)) 36 0 (a5, a6, a7, a8) (by omega) ⟨lt_0, lt_0, lt_0, lt_0, fun j _ _ => rfl⟩ ?_ ?_
  · intro n s h
    exact pk_le 36 36 (fun _ => H _ _ _ _ h.1 h.2.1 h.2.2.1 h.2.2.2.1) (fun z => absurd z (by omega))
  · intro n i s hi h hw
    obtain ⟨i5, i6, i7, i8, ik⟩ := h
    have b := hK i hi
    have step : ∀ z : Int64, lN (sq_w 0 (fun i => decide (K i ≠ 0)) i) ||| z = lN (sq_w 0 (fun i => decide (K i ≠ 0)) (i + 1)) →
        wX_layOut_27 post (wX_layOut_4 post f n) (nI i) z (lN (sq_w 0 (fun i => decide (K i ≠ 0)) i)) f a1 a2 a3 a4 s.1 s.2.1 s.2.2.1 s.2.2.2 a9 a10 a11 a12 a13 := by
      intro z hz
      refine nm_r hz ⟨pk_in i 36 hi, pk_in i 36 hi, nm_e ⟨pk_in i 36 hi, nm_e ⟨pk_in i 36 hi, nm_e ⟨pk_in i 36 hi, nm_e (nm_r (nI_1 i) (hw (_, _, _, _) ⟨?_, ?_, ?_, ?_, ?_⟩))⟩⟩⟩⟩
      · exact sq_fill (f := fun _ => -2) (sq_c hi) i5 rfl
      · exact sq_fill (f := fun _ => -2) (sq_c hi) i6 rfl
      · exact sq_fill (f := a6) (sq_c hi) i7 (by rw [sq_c hi]; exact ik i (Nat.le_refl i) hi)
      · exact sq_fill (f := fun _ => 0) (sq_c hi) i8 rfl
      · exact sq_rest (sq_c hi) ik
    refine pk_le 36 i (fun z => absurd z (by omega)) (fun _ => ⟨pk_in i 36 hi, ?_⟩)
    rw [sq_c hi, h1 i hi]
    refine pk_eq (K i) 0 (fun z => step 0 ?_) (fun z => step _ (sq_wj hi (by simp [z])))
    rw [sq_wn (by simp [z])]
    show lN _ ||| lN 0 = _
    rw [sq_or, Nat.or_zero]
end
section
/-! findWords, close, findStates -/
/-- the content of a cell: numbers stand as names of values -/
def sq_a (r : Nat → Int32) (K A : Nat → Nat) (j : Nat) : Int32 := if K j = 1 then r (A j) else nI (A j)
theorem sq_a_n {r : Nat → Int32} {K A : Nat → Nat} {j : Nat} (h : K j ≠ 1) : sq_a r K A j = nI (A j) := if_neg h
theorem sq_a_1 {r : Nat → Int32} {K A : Nat → Nat} {j : Nat} (h : K j = 1) : sq_a r K A j = r (A j) := if_pos h
theorem sq_f117 {post : St2 → Prop} {J : Int32 → Int64 → (Nat → Int32) → (Nat → Int32) → (Nat → Int32) → (Nat → Int32) → (Nat → Int32) → (Nat → Int32) → (Nat → Int32) → (Nat → Int32) → (Nat → Int64) → (Nat → Int64) → (Nat → Int32) → (Nat → Int32) → (Nat → Int32) → Prop} {f i : Nat} {p : Nat → Bool} {a1 a2 a3 a4 a5 a6 a7 a8 : Nat → Int32} {a9 a10 : Nat → Int64} {a11 a12 a13 : Nat → Int32} {d d' : Nat} {x : Int64} (hi : i < 36) (hx : x = lN d') (h9 : a9 i = lN d) (hd : d < 2 ^ 36) (hd' : d' < 2 ^ 36) (hp : p i = decide (d' ≠ d))
    (H : J (nI (i + 1)) (lN (sq_w f p (i + 1))) a1 a2 a3 a4 a5 a6 a7 a8 (vp_updL a9 i (lN d')) a10 a11 a12 a13) : wX_findWords_117 post J (nI i) x (lN (sq_w f p i)) a1 a2 a3 a4 a5 a6 a7 a8 a9 a10 a11 a12 a13 := by
  subst hx
  refine ⟨pk_in i 36 hi, ?_⟩
  rw [sq_c hi, h9]
  by_cases g : d' = d
  · rw [sq_wn (by rw [hp]; simp [g])] at H
    exact br_t (by rw [g]) ⟨pk_in i 36 hi, nm_e (nm_r (nI_1 i) H)⟩
  · exact br_f (fun z => g ((sq_eq hd' hd).mp z)) (nm_r (sq_wj hi (by rw [hp]; simp [g])) ⟨pk_in i 36 hi, nm_e (nm_r (nI_1 i) H)⟩)
/-- the word of a cell -/
abbrev sq_W (K A B C S D : Nat → Nat) (i : Nat) : Prop :=
  (S i < 36 ∧ D i = 2 ^ S i) ∨
  (S i = 36 ∧ K i = 2 ∧ A i < 36 ∧ B i < 36 ∧ D i = 2 ^ A i ||| 2 ^ B i) ∨
  (S i = 36 ∧ K i = 4 ∧ A i < 36 ∧ B i < 36 ∧ C i < 36 ∧ D i = (2 ^ A i ||| 2 ^ B i) ||| 2 ^ C i) ∨
  (S i = 36 ∧ K i = 3 ∧ A i = 14 ∧ B i = 21 ∧ D i = 3194880) ∨
  (S i = 36 ∧ K i ≠ 2 ∧ K i ≠ 4 ∧ K i ≠ 3 ∧ D i = 0)
theorem sq_fw {post : St2 → Prop} {r : Nat → Int32} {f : Nat} {a1 a2 a3 a4 a5 a6 a7 a8 : Nat → Int32} {a9 a10 : Nat → Int64} {a11 a12 a13 : Nat → Int32} {K A B C S D D' : Nat → Nat} (h1 : ∀ j, j < 36 → a1 j = nI (K j)) (hK : ∀ j, j < 36 → K j < 7) (h2 : ∀ j, j < 36 → a2 j = sq_a r K A j) (h3 : ∀ j, j < 36 → a3 j = nI (B j)) (h4 : ∀ j, j < 36 → a4 j = nI (C j)) (h6 : ∀ j, j < 36 → a6 j = sq_s (S j)) (h9 : ∀ j, j < 36 → a9 j = lN (D j))
    (hD : ∀ j, j < 36 → D j < 2 ^ 36 ∧ D' j < 2 ^ 36) (hW : ∀ j, j < 36 → sq_W K A B C S D' j)
    (H : ∀ b9 : Nat → Int64, (∀ j, j < 36 → b9 j = lN (D' j)) → post (lN (sq_w f (fun i => decide (D' i ≠ D i)) 36), a1, a2, a3, a4, a5, a6, a7, a8, b9, a10, a11, a12, a13)) : wpX_findWords post (lN f, a1, a2, a3, a4, a5, a6, a7, a8, a9, a10, a11, a12, a13) := by
  refine pk_loop (fun n i (s : Nat → Int64) => wX_findWords_2 post n (nI i) (lN (sq_w f (fun i => decide (D' i ≠ D i)) i)) a1 a2 a3 a4 a5 a6 a7 a8 s a10 a11 a12 a13)
    (fun i s => (∀ j, j < i → s j = lN (D' j)) ∧ (∀ j, i ≤ j → j < 36 → s j = lN (D j))) 36 0 a9 (by omega) ⟨lt_0, fun j _ hj => h9 j hj⟩ ?_ ?_
  · intro n s h
    exact pk_le 36 36 (fun _ => H _ h.1) (fun z => absurd z (by omega))
  · intro n i s hi h hw
    have b := hK i hi
    have t := hw (vp_updL s i (lN (D' i))) ⟨sq_fillL (f := fun j => lN (D' j)) rfl h.1 rfl, sq_restL (f := fun j => lN (D j)) rfl h.2⟩
    try dsimp only at t
    have go : ∀ x : Int64, x = lN (D' i) → wX_findWords_117 post (wX_findWords_2 post n) (nI i) x (lN (sq_w f (fun i => decide (D' i ≠ D i)) i)) a1 a2 a3 a4 a5 a6 a7 a8 s a10 a11 a12 a13 :=
      fun x hx => sq_f117 hi hx (h.2 i (Nat.le_refl i) hi) (hD i hi).1 (hD i hi).2 rfl t
    refine pk_le 36 i (fun z => absurd z (by omega)) (fun _ => ⟨pk_in i 36 hi, nm_r (e' := nI (K i)) (by rw [sq_c hi]; exact h1 i hi) ⟨pk_in i 36 hi, ?_⟩⟩)
    have e2 := h2 i hi
    rw [sq_c hi, h6 i hi]
    rcases hW i hi with g | g | g | g | g
    · obtain ⟨gs, gd⟩ := g
      rw [sq_s_lt (c := S i) (by omega)]
      refine br_f ?_ ⟨pk_in i 36 hi, nm_e (go _ ?_)⟩
      · intro z
        have q := (sq_s_eq (S i) (by omega) 36 (by decide)).mp (by rw [sq_s_lt (c := S i) (by omega)]; exact z)
        omega
      · rw [sq_1 _ gs, gd]
    · obtain ⟨gs, gk, ga, gb, gd⟩ := g
      rw [sq_a_n (by omega)] at e2
      rw [gs]
      refine br_t rfl (pk_eq (K i) 2 (fun _ => ?_) (fun z => absurd gk z))
      refine ⟨pk_in i 36 hi, pk_in i 36 hi, nm_r (e' := lN (D' i)) (by rw [sq_c hi, e2, h3 i hi, sq_1 _ ga, sq_1 _ gb, sq_or, gd]) ?_⟩
      exact pk_eq (K i) 4 (fun z => absurd z (by omega)) (fun _ => go _ rfl)
    · obtain ⟨gs, gk, ga, gb, gc, gd⟩ := g
      rw [sq_a_n (by omega)] at e2
      rw [gs]
      refine br_t rfl (pk_eq (K i) 2 (fun z => absurd z (by omega)) (fun _ => pk_eq (K i) 4 (fun _ => ?_) (fun z => absurd gk z)))
      refine ⟨pk_in i 36 hi, pk_in i 36 hi, nm_e (pk_eq (K i) 4 (fun _ => ⟨pk_in i 36 hi, go _ ?_⟩) (fun z => absurd gk z))⟩
      rw [sq_c hi, e2, h3 i hi, h4 i hi, sq_1 _ ga, sq_1 _ gb, sq_1 _ gc, sq_or, sq_or, gd]
    · obtain ⟨gs, gk, ga, gb, gd⟩ := g
      rw [sq_a_n (by omega)] at e2
      rw [gs]
      refine br_t rfl (pk_eq (K i) 2 (fun z => absurd z (by omega)) (fun _ => pk_eq (K i) 4 (fun z => absurd z (by omega)) (fun _ => pk_eq (K i) 3 (fun _ => ?_) (fun z => absurd gk z))))
      refine ⟨pk_in i 36 hi, pk_in i 36 hi, ?_⟩
      exact sq_rs (by rw [e2, ga]) (by rw [h3 i hi, gb]) (go _ (by rw [gd]))
    · obtain ⟨gs, g2, g4, g3, gd⟩ := g
      rw [gs]
      exact br_t rfl (pk_eq (K i) 2 (fun z => absurd z g2) (fun _ => pk_eq (K i) 4 (fun z => absurd z g4) (fun _ => pk_eq (K i) 3 (fun z => absurd z g3) (fun _ => go 0 (by rw [gd]; rfl)))))
/-! close -/
def sq_rd (o : Nat) (C : Nat → Nat) (j : Nat) : Nat := if (C j).testBit o then C j ||| C o else C j
def sq_cl (D : Nat → Nat) : Nat → Nat → Nat
  | 0 => D
  | o + 1 => sq_rd o (sq_cl D o)
theorem sq_rd_o (o : Nat) (C : Nat → Nat) : sq_rd o C o = C o := by
  unfold sq_rd
  split
  · exact Nat.or_self _
  · rfl
theorem sq_rd_b {o : Nat} {C : Nat → Nat} (ho : o < 36) (h : ∀ j, j < 36 → C j < 2 ^ 36) : ∀ j, j < 36 → sq_rd o C j < 2 ^ 36 := by
  intro j hj
  unfold sq_rd
  split
  · exact Nat.or_lt_two_pow (h j hj) (h o ho)
  · exact h j hj
theorem sq_cl_b {D : Nat → Nat} (h : ∀ j, j < 36 → D j < 2 ^ 36) : ∀ o, o ≤ 36 → ∀ j, j < 36 → sq_cl D o j < 2 ^ 36 := by
  intro o
  induction o with
  | zero => exact fun _ => h
  | succ o ih => exact fun ho => sq_rd_b (by omega) (ih (by omega))
theorem sq_c36 {post : St2 → Prop} {J : Int32 → (Nat → Int32) → (Nat → Int32) → (Nat → Int32) → (Nat → Int32) → (Nat → Int32) → (Nat → Int32) → (Nat → Int32) → (Nat → Int32) → (Nat → Int64) → (Nat → Int64) → (Nat → Int32) → (Nat → Int32) → (Nat → Int32) → Prop} {f : Int64} {o : Nat} {a1 a2 a3 a4 a5 a6 a7 a8 : Nat → Int32} {a9 a10 : Nat → Int64} {a11 a12 a13 : Nat → Int32} {C : Nat → Nat} (ho : o < 36) (hb : ∀ j, j < 36 → C j < 2 ^ 36) (h10 : ∀ j, j < 36 → a10 j = lN (C j))
    (H : ∀ b10 : Nat → Int64, (∀ j, j < 36 → b10 j = lN (sq_rd o C j)) → J (nI (o + 1)) a1 a2 a3 a4 a5 a6 a7 a8 a9 b10 a11 a12 a13) : ∃ n, wX_close_36 post J (nI o) f n 0 a1 a2 a3 a4 a5 a6 a7 a8 a9 a10 a11 a12 a13 := by
  refine pk_loop (fun n i (s : Nat → Int64) => wX_close_36 post J (nI o) f n (nI i) a1 a2 a3 a4 a5 a6 a7 a8 a9 s a11 a12 a13)
    (fun i s => (∀ j, j < i → s j = lN (sq_rd o C j)) ∧ (∀ j, i ≤ j → j < 36 → s j = lN (C j))) 36 0 a10 (by omega) ⟨lt_0, fun j _ hj => h10 j hj⟩ ?_ ?_
  · intro n s h
    exact pk_le 36 36 (fun _ => nm_r (nI_1 o) (H s h.1)) (fun z => absurd z (by omega))
  · intro n i s hi h hw
    have ei : s i = lN (C i) := h.2 i (Nat.le_refl i) hi
    have eo : s o = lN (C o) := by
      rcases Nat.lt_or_ge o i with z | z
      · rw [h.1 o z, sq_rd_o]
      · exact h.2 o z ho
    refine pk_le 36 i (fun z => absurd z (by omega)) (fun _ => ⟨pk_in i 36 hi, ?_⟩)
    rw [sq_c hi, sq_c ho, ei, eo]
    by_cases g : (C i).testBit o = true
    · have er : sq_rd o C i = C i ||| C o := if_pos g
      exact br_t ((sq_bit (hb i hi) ho).mpr g) ⟨pk_in i 36 hi, pk_in o 36 ho, pk_in i 36 hi, nm_e (nm_r (nI_1 i) (hw _ ⟨sq_fillL (f := fun j => lN (sq_rd o C j)) rfl h.1 (by show _ = lN (sq_rd o C i); rw [er, sq_or]), sq_restL (f := fun j => lN (C j)) rfl h.2⟩))⟩
    · have er : sq_rd o C i = C i := if_neg g
      exact br_f (fun z => g ((sq_bit (hb i hi) ho).mp z)) (nm_r (nI_1 i) (hw s ⟨lt_s h.1 (by rw [er]; exact ei), fun j h1 h2 => h.2 j (by omega) h2⟩))
theorem sq_clo {post : St2 → Prop} {f : Int64} {a1 a2 a3 a4 a5 a6 a7 a8 : Nat → Int32} {a9 a10 : Nat → Int64} {a11 a12 a13 : Nat → Int32} {D : Nat → Nat} (hb : ∀ j, j < 36 → D j < 2 ^ 36) (h9 : ∀ j, j < 36 → a9 j = lN (D j))
    (H : ∀ b10 : Nat → Int64, (∀ j, j < 36 → b10 j = lN (sq_cl D 36 j)) → post (f, a1, a2, a3, a4, a5, a6, a7, a8, a9, b10, a11, a12, a13)) : wpX_close post (f, a1, a2, a3, a4, a5, a6, a7, a8, a9, a10, a11, a12, a13) := by
  have two : ∀ s0 : Nat → Int64, (∀ j, j < 36 → s0 j = lN (D j)) → ∃ n, wX_close_28 post f n 0 a1 a2 a3 a4 a5 a6 a7 a8 a9 s0 a11 a12 a13 := by
    intro s0 hs0
    refine pk_loop (fun n o (s : Nat → Int64) => wX_close_28 post f n (nI o) a1 a2 a3 a4 a5 a6 a7 a8 a9 s a11 a12 a13) (fun o s => ∀ j, j < 36 → s j = lN (sq_cl D o j)) 36 0 s0 (by omega) hs0 ?_ ?_
    · intro n s h
      exact pk_le 36 36 (fun _ => H s h) (fun z => absurd z (by omega))
    · intro n o s ho h hw
      exact pk_le 36 o (fun z => absurd z (by omega)) (fun _ => sq_c36 ho (sq_cl_b hb o (by omega)) h (fun b10 q => hw b10 q))
  refine pk_loop (fun n i (s : Nat → Int64) => wX_close_2 post f n (nI i) a1 a2 a3 a4 a5 a6 a7 a8 a9 s a11 a12 a13) (fun i s => ∀ j, j < i → s j = lN (D j)) 36 0 a10 (by omega) lt_0 ?_ ?_
  · intro n s h
    exact pk_le 36 36 (fun _ => two s h) (fun z => absurd z (by omega))
  · intro n i s hi h hw
    exact pk_le 36 i (fun z => absurd z (by omega)) (fun _ => ⟨pk_in i 36 hi, pk_in i 36 hi, nm_e (nm_r (nI_1 i) (hw _ (sq_fillL (f := fun j => lN (D j)) (sq_c hi) h (by rw [sq_c hi]; exact h9 i hi))))⟩)
/-! findStates -/
theorem sq_and2 (n i : Nat) : n &&& 2 ^ i = if n.testBit i then 2 ^ i else 0 := by
  apply Nat.eq_of_testBit_eq
  intro j
  rw [Nat.testBit_and, Nat.testBit_two_pow]
  by_cases g : n.testBit i = true
  · rw [if_pos g, Nat.testBit_two_pow]
    by_cases e : i = j
    · subst e
      simp [g]
    · simp [e]
  · rw [if_neg g, Nat.zero_testBit]
    by_cases e : i = j
    · subst e
      simp [g]
    · simp [e]
def sq_st (K S Cl : Nat → Nat) (c g : Nat) (i : Nat) : Nat := if (Cl i ||| 2 ^ i) &&& c ≠ 0 then 2 else if (Cl i ||| 2 ^ i) &&& g ≠ 0 then 3 else if K i = 0 ∧ S i = 36 then 0 else 1
theorem sq_st_b (K S Cl : Nat → Nat) (c g i : Nat) : sq_st K S Cl c g i < 4 := by
  unfold sq_st
  split
  · decide
  · split
    · decide
    · split <;> decide
theorem sq_s148 {post : St2 → Prop} {J : Int32 → Int64 → (Nat → Int32) → (Nat → Int32) → (Nat → Int32) → (Nat → Int32) → (Nat → Int32) → (Nat → Int32) → (Nat → Int32) → (Nat → Int32) → (Nat → Int64) → (Nat → Int64) → (Nat → Int32) → (Nat → Int32) → (Nat → Int32) → Prop} {f i : Nat} {p : Nat → Bool} {c g : Int64} {a1 a2 a3 a4 a5 a6 a7 a8 : Nat → Int32} {a9 a10 : Nat → Int64} {a11 a12 a13 : Nat → Int32} {d d' : Nat} {x : Int32} (hi : i < 36) (hx : x = nI d') (h11 : a11 i = nI d) (hd : d < 4) (hd' : d' < 4) (hp : p i = decide (d' ≠ d))
    (H : J (nI (i + 1)) (lN (sq_w f p (i + 1))) a1 a2 a3 a4 a5 a6 a7 a8 a9 a10 (upd a11 i (nI d')) a12 a13) : wX_findStates_148 post J c g (nI i) x (lN (sq_w f p i)) a1 a2 a3 a4 a5 a6 a7 a8 a9 a10 a11 a12 a13 := by
  subst hx
  refine ⟨pk_in i 36 hi, ?_⟩
  rw [sq_c hi, h11]
  refine pk_eq d' d (fun z => ?_) (fun z => ?_)
  · rw [sq_wn (by rw [hp]; simp [z])] at H
    exact ⟨pk_in i 36 hi, nm_e (nm_r (nI_1 i) H)⟩
  · exact nm_r (sq_wj hi (by rw [hp]; simp [z])) ⟨pk_in i 36 hi, nm_e (nm_r (nI_1 i) H)⟩
theorem sq_s71 {post : St2 → Prop} {f c g : Nat} {a1 a2 a3 a4 a5 a6 a7 a8 : Nat → Int32} {a9 a10 : Nat → Int64} {a11 a12 a13 : Nat → Int32} {K S Cl St : Nat → Nat} (h1 : ∀ j, j < 36 → a1 j = nI (K j)) (hK : ∀ j, j < 36 → K j < 7) (h6 : ∀ j, j < 36 → a6 j = sq_s (S j)) (hS : ∀ j, j < 36 → S j < 37) (h10 : ∀ j, j < 36 → a10 j = lN (Cl j)) (h11 : ∀ j, j < 36 → a11 j = nI (St j)) (hSt : ∀ j, j < 36 → St j < 4) (hc : c < 2 ^ 36) (hg : g < 2 ^ 36)
    (H : ∀ b11 : Nat → Int32, (∀ j, j < 36 → b11 j = nI (sq_st K S Cl c g j)) → post (lN (sq_w f (fun i => decide (sq_st K S Cl c g i ≠ St i)) 36), a1, a2, a3, a4, a5, a6, a7, a8, a9, a10, b11, a12, a13)) : ∃ n, wX_findStates_71 post (lN c) (lN g) n 0 (lN f) a1 a2 a3 a4 a5 a6 a7 a8 a9 a10 a11 a12 a13 := by
  refine pk_loop (fun n i (s : Nat → Int32) => wX_findStates_71 post (lN c) (lN g) n (nI i) (lN (sq_w f (fun i => decide (sq_st K S Cl c g i ≠ St i)) i)) a1 a2 a3 a4 a5 a6 a7 a8 a9 a10 s a12 a13)
    (fun i s => (∀ j, j < i → s j = nI (sq_st K S Cl c g j)) ∧ (∀ j, i ≤ j → j < 36 → s j = nI (St j))) 36 0 a11 (by omega) ⟨lt_0, fun j _ hj => h11 j hj⟩ ?_ ?_
  · intro n s h
    exact pk_le 36 36 (fun _ => H _ h.1) (fun z => absurd z (by omega))
  · intro n i s hi h hw
    have b := hK i hi
    have t := hw (upd s i (nI (sq_st K S Cl c g i))) ⟨sq_fill (f := fun j => nI (sq_st K S Cl c g j)) rfl h.1 rfl, sq_rest (f := fun j => nI (St j)) rfl h.2⟩
    try dsimp only at t
    have go : ∀ x : Int32, x = nI (sq_st K S Cl c g i) → wX_findStates_148 post (wX_findStates_71 post (lN c) (lN g) n) (lN c) (lN g) (nI i) x (lN (sq_w f (fun i => decide (sq_st K S Cl c g i ≠ St i)) i)) a1 a2 a3 a4 a5 a6 a7 a8 a9 a10 s a12 a13 :=
      fun x hx => sq_s148 hi hx (h.2 i (Nat.le_refl i) hi) (hSt i hi) (sq_st_b _ _ _ _ _ _) rfl t
    have go2 : ∀ q : Nat, (if K i = 0 ∧ S i = 36 then 0 else 1) = q → wX_findStates_119 post (wX_findStates_71 post (lN c) (lN g) n) (lN c) (lN g) (nI i) (lN (Cl i ||| 2 ^ i)) (nI q) (lN (sq_w f (fun i => decide (sq_st K S Cl c g i ≠ St i)) i)) a1 a2 a3 a4 a5 a6 a7 a8 a9 a10 s a12 a13 := by
      intro q hq
      by_cases g1 : (Cl i ||| 2 ^ i) &&& c = 0
      · refine br_t ((sq_z hc).mpr g1) ?_
        by_cases g2 : (Cl i ||| 2 ^ i) &&& g = 0
        · refine br_t ((sq_z hg).mpr g2) (go _ ?_)
          unfold sq_st
          rw [if_neg (not_not_intro g1), if_neg (not_not_intro g2), hq]
        · refine br_f (fun z => g2 ((sq_z hg).mp z)) (go _ ?_)
          unfold sq_st
          rw [if_neg (not_not_intro g1), if_pos g2]
          rfl
      · refine br_f (fun z => g1 ((sq_z hc).mp z)) (go _ ?_)
        unfold sq_st
        rw [if_pos g1]
        rfl
    refine pk_le 36 i (fun z => absurd z (by omega)) (fun _ => ⟨pk_in i 36 hi, nm_r (e' := lN (Cl i ||| 2 ^ i)) (by rw [sq_c hi, h10 i hi, sq_1 i hi, sq_or]) ⟨pk_in i 36 hi, ?_⟩⟩)
    rw [sq_c hi, h1 i hi, h6 i hi]
    refine pk_eq (K i) 0 (fun z => ⟨pk_in i 36 hi, br_c (fun y => ?_) (fun y => ?_)⟩) (fun z => ?_)
    · have y' := (sq_s_eq _ (hS i hi) 36 (by decide)).mp y
      exact go2 0 (if_pos ⟨z, y'⟩)
    · have y' : ¬ S i = 36 := fun e => y (by rw [e]; rfl)
      exact go2 1 (if_neg (fun q => y' q.2))
    · exact go2 1 (if_neg (fun q => z q.1))
theorem sq_fs {post : St2 → Prop} {f : Nat} {a1 a2 a3 a4 a5 a6 a7 a8 : Nat → Int32} {a9 a10 : Nat → Int64} {a11 a12 a13 : Nat → Int32} {K S Bl Cl St : Nat → Nat} {c g : Nat} (h1 : ∀ j, j < 36 → a1 j = nI (K j)) (hK : ∀ j, j < 36 → K j < 7) (h6 : ∀ j, j < 36 → a6 j = sq_s (S j)) (hS : ∀ j, j < 36 → S j < 37) (h8 : ∀ j, j < 36 → a8 j = nI (Bl j)) (hBl : ∀ j, j < 36 → Bl j < 2) (h10 : ∀ j, j < 36 → a10 j = lN (Cl j)) (h11 : ∀ j, j < 36 → a11 j = nI (St j)) (hSt : ∀ j, j < 36 → St j < 4)
    (ec : sq_w 0 (fun i => (Cl i).testBit i) 36 = c) (eg : sq_w 0 (fun i => decide (Bl i ≠ 0 ∨ K i = 6)) 36 = g) (hc : c < 2 ^ 36) (hg : g < 2 ^ 36)
    (H : ∀ b11 : Nat → Int32, (∀ j, j < 36 → b11 j = nI (sq_st K S Cl c g j)) → post (lN (sq_w f (fun i => decide (sq_st K S Cl c g i ≠ St i)) 36), a1, a2, a3, a4, a5, a6, a7, a8, a9, a10, b11, a12, a13)) : wpX_findStates post (lN f, a1, a2, a3, a4, a5, a6, a7, a8, a9, a10, a11, a12, a13) := by
  refine pk_loop (σ := Unit) (fun n i _ => wX_findStates_7 post (lN f) a1 a2 a3 a4 a5 a6 a7 a8 a9 a10 a11 a12 a13 n (lN (sq_w 0 (fun i => (Cl i).testBit i) i)) (lN (sq_w 0 (fun i => decide (Bl i ≠ 0 ∨ K i = 6)) i)) (nI i)) (fun _ _ => True) 36 0 () (by omega) trivial ?_ ?_
  · intro n _ _
    refine pk_le 36 36 (fun _ => ?_) (fun z => absurd z (by omega))
    rw [ec, eg]
    exact sq_s71 h1 hK h6 hS h10 h11 hSt hc hg H
  · intro n i _ hi _ hw
    have b := hK i hi
    have b8 := hBl i hi
    have t := hw () trivial
    try dsimp only at t
    have e1 : lN (sq_w 0 (fun i => (Cl i).testBit i) i) ||| (a10 (nI i).toNatClampNeg &&& ((1 : Int64) <<< ((nI i).toInt64 &&& 63))) = lN (sq_w 0 (fun i => (Cl i).testBit i) (i + 1)) := by
      rw [sq_c hi, h10 i hi, sq_1 i hi, sq_and, sq_or, sq_and2]
      rfl
    refine pk_le 36 i (fun z => absurd z (by omega)) (fun _ => ⟨pk_in i 36 hi, nm_r e1 ⟨pk_in i 36 hi, ?_⟩⟩)
    rw [sq_c hi, h1 i hi, h8 i hi]
    refine pk_eq (Bl i) 0 (fun z => ⟨pk_in i 36 hi, pk_eq (K i) 6 (fun y => ?_) (fun y => ?_)⟩) (fun z => ?_)
    · exact nm_r (sq_wj hi (by simp [y])) (nm_r (nI_1 i) t)
    · rw [sq_wn (p := fun i => decide (Bl i ≠ 0 ∨ K i = 6)) (by simp [y, z])] at t
      refine nm_r ?_ (nm_r (nI_1 i) t)
      show lN _ ||| lN 0 = _
      rw [sq_or, Nat.or_zero]
    · exact nm_r (sq_wj hi (by simp [z])) (nm_r (nI_1 i) t)
end
section
/-! totalOf, valueNow, workOut -/
theorem sq_to2 {post : Int32 → Prop} {J : Int32 → Int32 → Prop} {f : Int64} {a1 a2 a3 a4 a5 a6 a7 a8 : Nat → Int32} {a9 a10 : Nat → Int64} {a11 a12 a13 : Nat → Int32} {x x' x'' y y1 : Int32} (k k' : Nat) (hk : k < 36) (hk' : k' < 36) (ek : (6 * y) + 2 = nI k) (ek' : (6 * y) + 3 = nI k') (hx' : x + a12 k = x') (hx'' : x' + a12 k' = x'') (hy : y + 1 = y1) (H : J x'' y1) : wX_totalOf_23 post J (nI 14) (nI 21) y f a1 a2 a3 a4 a5 a6 a7 a8 a9 a10 a11 a12 a13 3 x 2 := by
  refine ⟨by decide, br_f (by decide +kernel) ⟨pk_in k 36 hk ek, nm_r (e' := x') (by rw [ek, sq_c hk]; exact hx') (nm_r (show (2 : Int32) + 1 = 3 by decide) ?_)⟩⟩
  refine ⟨by decide, br_f (by decide +kernel) ⟨pk_in k' 36 hk' ek', nm_r (e' := x'') (by rw [ek', sq_c hk']; exact hx'') (nm_r (show (3 : Int32) + 1 = 4 by decide) ?_)⟩⟩
  exact ⟨by decide, br_t (by decide +kernel) (nm_r hy H)⟩
theorem sq_to {post : Int32 → Prop} {f : Int64} {a1 a2 a3 a4 a5 a6 a7 a8 : Nat → Int32} {a9 a10 : Nat → Int64} {a11 a12 a13 : Nat → Int32} {p q : Int32} (hp : p = nI 14) (hq : q = nI 21) (H : post ((((0 + a12 14) + a12 15) + a12 20) + a12 21)) : wpX_totalOf post (f, a1, a2, a3, a4, a5, a6, a7, a8, a9, a10, a11, a12, a13) p q := by
  subst hp hq
  refine ⟨by decide, nm_r (show nI 14 / 6 = 2 by decide +kernel) ⟨3, ?_⟩⟩
  refine ⟨by decide, br_f (by decide +kernel) ⟨by decide, nm_r (show nI 14 - nI 14 / 6 * 6 = 2 by decide +kernel) ⟨3, sq_to2 (y1 := 3) 14 15 (by decide) (by decide) (by decide +kernel) (by decide +kernel) rfl rfl (by decide) ?_⟩⟩⟩
  refine ⟨by decide, br_f (by decide +kernel) ⟨by decide, nm_r (show nI 14 - nI 14 / 6 * 6 = 2 by decide +kernel) ⟨3, sq_to2 (y1 := 4) 20 21 (by decide) (by decide) (by decide +kernel) (by decide +kernel) rfl rfl (by decide) ?_⟩⟩⟩
  exact ⟨by decide, br_t (by decide +kernel) H⟩
/-- where a cell that is worked out takes its value from -/
abbrev sq_vc (T : Nat → Nat → Nat) (w i : Nat) : Prop :=
  (T 6 i < 36 ∧ T 12 (T 6 i) = T 12 i ∧ (w.testBit (T 6 i) = false ∨ T 6 i < i)) ∨
  (T 6 i = 36 ∧ T 1 i = 1 ∧ T 2 i = T 12 i) ∨
  (T 6 i = 36 ∧ T 1 i = 3 ∧ T 2 i = 14 ∧ T 3 i = 21 ∧ 21 < i ∧ T 12 14 = 1 ∧ T 12 15 = 2 ∧ T 12 20 = 3 ∧ T 12 21 = 4 ∧ T 12 i = 6) ∨
  (T 6 i = 36 ∧ T 1 i = 4 ∧ T 2 i = 14 ∧ T 3 i = 15 ∧ T 4 i = 20 ∧ 20 < i ∧ T 12 14 = 1 ∧ T 12 15 = 2 ∧ T 12 20 = 3 ∧ T 12 i = 7)
/-- the names of values: 0 is zero, 1 .. 5 are free, 6 the sum of 1 .. 4, 7 the choice -/
abbrev sq_E (r : Nat → Int32) : Prop := r 0 = 0 ∧ r 6 = (((0 + r 1) + r 2) + r 3) + r 4 ∧ (r 1 ≤ 0 → r 7 = r 3) ∧ (¬ r 1 ≤ 0 → r 7 = r 2)
theorem sq_vn {post : Int32 → Prop} {r : Nat → Int32} {f : Int64} {a1 a2 a3 a4 a5 a6 a7 a8 : Nat → Int32} {a9 a10 : Nat → Int64} {a11 a12 a13 : Nat → Int32} {T : Nat → Nat → Nat} {w i : Nat} (hi : i < 36) (hr : sq_E r) (hK : T 1 i < 7) (h1 : ∀ j, j < 36 → a1 j = nI (T 1 j)) (h2 : ∀ j, j < 36 → a2 j = sq_a r (T 1) (T 2) j) (h3 : ∀ j, j < 36 → a3 j = nI (T 3 j)) (h4 : ∀ j, j < 36 → a4 j = nI (T 4 j)) (h6 : ∀ j, j < 36 → a6 j = sq_s (T 6 j))
    (h12 : ∀ j, j < 36 → (w.testBit j = false ∨ j < i) → a12 j = r (T 12 j)) (hv : sq_vc T w i) (H : post (r (T 12 i))) : wpX_valueNow post (f, a1, a2, a3, a4, a5, a6, a7, a8, a9, a10, a11, a12, a13) (nI i) := by
  refine ⟨pk_in i 36 hi, ?_⟩
  have e1 := h1 i hi
  have e2 := h2 i hi
  have e3 := h3 i hi
  have e4 := h4 i hi
  have e6 := h6 i hi
  rw [sq_c hi, e6]
  rcases hv with g | g | g | g
  · obtain ⟨g1, g2, g3⟩ := g
    rw [sq_s_lt (c := T 6 i) (by omega)]
    refine br_f ?_ ⟨pk_in i 36 hi, pk_in (T 6 i) 36 g1, ?_⟩
    · intro z
      have q := (sq_s_eq (T 6 i) (by omega) 36 (by decide)).mp (by rw [sq_s_lt (c := T 6 i) (by omega)]; exact z)
      omega
    · rw [sq_c g1, h12 _ g1 g3, g2]
      exact H
  · obtain ⟨g1, g2, g3⟩ := g
    rw [g1]
    refine br_t rfl ⟨pk_in i 36 hi, nm_r (e' := nI (T 1 i)) e1 (pk_eq (T 1 i) 1 (fun _ => ⟨pk_in i 36 hi, ?_⟩) (fun z => absurd g2 z))⟩
    rw [e2, sq_a_1 g2, g3]
    exact H
  · obtain ⟨g1, g2, g3, g4, g5, v1, v2, v3, v4, v5⟩ := g
    rw [g1]
    refine br_t rfl ⟨pk_in i 36 hi, nm_r (e' := nI (T 1 i)) e1 (pk_eq (T 1 i) 1 (fun z => absurd z (by omega)) (fun _ => pk_eq (T 1 i) 3 (fun _ => ⟨pk_in i 36 hi, pk_in i 36 hi, ?_⟩) (fun z => absurd g2 z)))⟩
    refine sq_to (by rw [e2, sq_a_n (by omega), g3]) (by rw [e3, g4]) ?_
    rw [h12 14 (by decide) (Or.inr (by omega)), h12 15 (by decide) (Or.inr (by omega)), h12 20 (by decide) (Or.inr (by omega)), h12 21 (by decide) (Or.inr (by omega)), v1, v2, v3, v4, ← hr.2.1]
    rw [v5] at H
    exact H
  · obtain ⟨g1, g2, g3, g4, g5, g6, v1, v2, v3, v5⟩ := g
    rw [sq_a_n (by omega), g3] at e2
    rw [g4] at e3
    rw [g5] at e4
    rw [v5] at H
    rw [g1]
    refine br_t rfl ⟨pk_in i 36 hi, nm_r (e' := nI (T 1 i)) e1 (pk_eq (T 1 i) 1 (fun z => absurd z (by omega)) (fun _ => pk_eq (T 1 i) 3 (fun z => absurd z (by omega)) (fun _ => ⟨pk_in i 36 hi, pk_in 14 36 (by decide) e2, ?_⟩)))⟩
    refine nm_r (e' := r 1) (by rw [e2, sq_c (by decide), h12 14 (by decide) (Or.inr (by omega)), v1]) ⟨pk_in i 36 hi, pk_in 15 36 (by decide) e3, nm_r (e' := r 2) (by rw [e3, sq_c (by decide), h12 15 (by decide) (Or.inr (by omega)), v2]) ?_⟩
    refine pk_eq (T 1 i) 4 (fun _ => br_c (fun z => ⟨pk_in i 36 hi, pk_in 20 36 (by decide) e4, ?_⟩) (fun z => ?_)) (fun z => absurd g2 z)
    · rw [e4, sq_c (by decide), h12 20 (by decide) (Or.inr (by omega)), v3, ← hr.2.2.1 z]
      exact H
    · rw [← hr.2.2.2 z]
      exact H
/-- the cells that wait still when the round stands at i -/
def sq_x (w i : Nat) : Nat := (w >>> i) <<< i
abbrev sq_R (T : Nat → Nat → Nat) (w i : Nat) : Prop :=
  sq_x w i < 2 ^ 36 ∧ ((sq_x w i).testBit i = w.testBit i) ∧ (w.testBit i = false → sq_x w (i + 1) = sq_x w i) ∧
  (w.testBit i = true → T 9 i &&& sq_x w i = 0 ∧ sq_x w i &&& (2 ^ i ^^^ (2 ^ 64 - 1)) = sq_x w (i + 1) ∧ sq_vc T w i)
theorem sq_w83 {post : St2 → Prop} {J : Int64 → Int32 → (Nat → Int32) → (Nat → Int32) → (Nat → Int32) → (Nat → Int32) → (Nat → Int32) → (Nat → Int32) → (Nat → Int32) → (Nat → Int32) → (Nat → Int64) → (Nat → Int64) → (Nat → Int32) → (Nat → Int32) → (Nat → Int32) → Prop} {r : Nat → Int32} {f : Int64} {a1 a2 a3 a4 a5 a6 a7 a8 : Nat → Int32} {a9 a10 : Nat → Int64} {a11 a12 a13 : Nat → Int32} {T : Nat → Nat → Nat} {w : Nat} (hr : sq_E r) (hK : ∀ j, j < 36 → T 1 j < 7) (h1 : ∀ j, j < 36 → a1 j = nI (T 1 j)) (h2 : ∀ j, j < 36 → a2 j = sq_a r (T 1) (T 2) j) (h3 : ∀ j, j < 36 → a3 j = nI (T 3 j)) (h4 : ∀ j, j < 36 → a4 j = nI (T 4 j)) (h6 : ∀ j, j < 36 → a6 j = sq_s (T 6 j)) (h9 : ∀ j, j < 36 → a9 j = lN (T 9 j))
    (h12 : ∀ j, j < 36 → w.testBit j = false → a12 j = r (T 12 j)) (hR : ∀ j, j < 36 → sq_R T w j)
    (H : ∀ b12 : Nat → Int32, (∀ j, j < 36 → b12 j = r (T 12 j)) → J (lN (sq_x w 36)) 1 a1 a2 a3 a4 a5 a6 a7 a8 a9 a10 a11 b12 a13) : ∃ n, wX_workOut_83 post J 0 f n (lN (sq_x w 0)) 0 a1 a2 a3 a4 a5 a6 a7 a8 a9 a10 a11 a12 a13 := by
  refine pk_loop (fun n i (s : Nat → Int32) => wX_workOut_83 post J 0 f n (lN (sq_x w i)) (nI i) a1 a2 a3 a4 a5 a6 a7 a8 a9 a10 a11 s a13)
    (fun i s => ∀ j, j < 36 → (w.testBit j = false ∨ j < i) → s j = r (T 12 j)) 36 0 a12 (by omega) (fun j hj z => h12 j hj (z.resolve_right (by omega))) ?_ ?_
  · intro n s h
    exact pk_le 36 36 (fun _ => nm_r (show (0 : Int32) + 1 = 1 by decide) (H s (fun j hj => h j hj (Or.inr hj)))) (fun z => absurd z (by omega))
  · intro n i s hi h hw
    obtain ⟨r1, r2, r3, r4⟩ := hR i hi
    refine pk_le 36 i (fun z => absurd z (by omega)) (fun _ => ?_)
    by_cases g : w.testBit i = true
    · obtain ⟨q1, q2, q3⟩ := r4 g
      refine br_t ((sq_bit r1 hi).mpr (by rw [r2, g])) ⟨pk_in i 36 hi, ?_⟩
      rw [sq_c hi, h9 i hi]
      refine br_t ((sq_z r1).mpr q1) (sq_vn hi hr (hK i hi) h1 h2 h3 h4 h6 h q3 ⟨pk_in i 36 hi, nm_e (nm_r ?_ (nm_r (nI_1 i) (hw _ ?_)))⟩)
      · rw [sq_clr _ hi, q2]
      · intro j hj z
        by_cases e : j = i
        · rw [e, pk_us]
        · rw [pk_un e]
          exact h j hj (z.imp id (fun y => by omega))
    · have g' : w.testBit i = false := Bool.eq_false_iff.mpr g
      have t := hw s (fun j hj z => by
        by_cases e : j = i
        · rw [e]
          exact h i hi (Or.inl g')
        · exact h j hj (z.imp id (fun y => by omega)))
      try dsimp only at t
      rw [r3 g'] at t
      exact br_f (fun z => g (by rw [← r2]; exact (sq_bit r1 hi).mp z)) (nm_r (nI_1 i) t)
theorem sq_w68 {post : St2 → Prop} {r : Nat → Int32} {f : Int64} {a1 a2 a3 a4 a5 a6 a7 a8 : Nat → Int32} {a9 a10 : Nat → Int64} {a11 a12 a13 : Nat → Int32} {T : Nat → Nat → Nat} {w : Nat} (hr : sq_E r) (hK : ∀ j, j < 36 → T 1 j < 7) (h1 : ∀ j, j < 36 → a1 j = nI (T 1 j)) (h2 : ∀ j, j < 36 → a2 j = sq_a r (T 1) (T 2) j) (h3 : ∀ j, j < 36 → a3 j = nI (T 3 j)) (h4 : ∀ j, j < 36 → a4 j = nI (T 4 j)) (h6 : ∀ j, j < 36 → a6 j = sq_s (T 6 j)) (h9 : ∀ j, j < 36 → a9 j = lN (T 9 j))
    (h12 : ∀ j, j < 36 → w.testBit j = false → a12 j = r (T 12 j)) (hw : w < 2 ^ 36) (hR : ∀ j, j < 36 → sq_R T w j) (h36 : sq_x w 36 = 0)
    (H : ∀ b12 : Nat → Int32, (∀ j, j < 36 → b12 j = r (T 12 j)) → post (f, a1, a2, a3, a4, a5, a6, a7, a8, a9, a10, a11, b12, a13)) : ∃ n, wX_workOut_68 post f n (lN w) 0 a1 a2 a3 a4 a5 a6 a7 a8 a9 a10 a11 a12 a13 := by
  by_cases g : w = 0
  · subst g
    exact ⟨1, br_f (by decide) (br_t rfl (H _ (fun j hj => h12 j hj (Nat.zero_testBit j))))⟩
  · refine ⟨2, br_f (by decide) (br_f (fun z => g ((sq_eq (b := 0) hw (by decide)).mp z)) ?_)⟩
    refine sq_w83 (w := w) hr hK h1 h2 h3 h4 h6 h9 h12 hR (fun b12 hb => ?_)
    rw [h36]
    exact br_f (by decide) (br_t rfl (H b12 hb))
theorem sq_wo {post : St2 → Prop} {r : Nat → Int32} {f : Nat} {a1 a2 a3 a4 a5 a6 a7 a8 : Nat → Int32} {a9 a10 : Nat → Int64} {a11 a12 a13 : Nat → Int32} {T : Nat → Nat → Nat} {V : Nat → Nat} {w : Nat} (hr : sq_E r) (hK : ∀ j, j < 36 → T 1 j < 7) (h1 : ∀ j, j < 36 → a1 j = nI (T 1 j)) (h2 : ∀ j, j < 36 → a2 j = sq_a r (T 1) (T 2) j) (h3 : ∀ j, j < 36 → a3 j = nI (T 3 j)) (h4 : ∀ j, j < 36 → a4 j = nI (T 4 j)) (h6 : ∀ j, j < 36 → a6 j = sq_s (T 6 j)) (h9 : ∀ j, j < 36 → a9 j = lN (T 9 j)) (h10 : ∀ j, j < 36 → a10 j = lN (T 10 j)) (h11 : ∀ j, j < 36 → a11 j = nI (T 11 j)) (hSt : ∀ j, j < 36 → T 11 j < 4) (h12 : ∀ j, j < 36 → a12 j = r (V j)) (hf : f < 2 ^ 36)
    (ew : sq_w 0 (fun i => decide (T 11 i = 1 ∧ (T 10 i ||| 2 ^ i) &&& f ≠ 0)) 36 = w)
    (hV : ∀ j, j < 36 → w.testBit j = false → (if T 11 j = 1 then V j else 0) = T 12 j) (hw : w < 2 ^ 36) (hR : ∀ j, j < 36 → sq_R T w j) (h36 : sq_x w 36 = 0)
    (H : ∀ b12 : Nat → Int32, (∀ j, j < 36 → b12 j = r (T 12 j)) → post (lN f, a1, a2, a3, a4, a5, a6, a7, a8, a9, a10, a11, b12, a13)) : wpX_workOut post (lN f, a1, a2, a3, a4, a5, a6, a7, a8, a9, a10, a11, a12, a13) := by
  refine pk_loop (fun n i (s : Nat → Int32) => wX_workOut_4 post (lN f) n (lN (sq_w 0 (fun i => decide (T 11 i = 1 ∧ (T 10 i ||| 2 ^ i) &&& f ≠ 0)) i)) (nI i) a1 a2 a3 a4 a5 a6 a7 a8 a9 a10 a11 s a13)
    (fun i s => (∀ j, j < i → s j = r (if T 11 j = 1 then V j else 0)) ∧ (∀ j, i ≤ j → j < 36 → s j = r (V j))) 36 0 a12 (by omega) ⟨lt_0, fun j _ hj => h12 j hj⟩ ?_ ?_
  · intro n s h
    refine pk_le 36 36 (fun _ => ?_) (fun z => absurd z (by omega))
    rw [ew]
    exact sq_w68 hr hK h1 h2 h3 h4 h6 h9 (fun j hj z => by rw [h.1 j hj, hV j hj z]) hw hR h36 H
  · intro n i s hi h hw
    have b := hSt i hi
    refine pk_le 36 i (fun z => absurd z (by omega)) (fun _ => ⟨pk_in i 36 hi, nm_r (e' := lN (T 10 i ||| 2 ^ i)) (by rw [sq_c hi, h10 i hi, sq_1 i hi, sq_or]) ⟨pk_in i 36 hi, ?_⟩⟩)
    rw [sq_c hi, h11 i hi]
    refine pk_eq (T 11 i) 1 (fun z => ?_) (fun z => ⟨pk_in i 36 hi, nm_e (nm_r (nI_1 i) ?_)⟩)
    · have t := hw s ⟨lt_s h.1 (by rw [if_pos z]; exact h.2 i (Nat.le_refl i) hi), fun j q1 q2 => h.2 j (by omega) q2⟩
      try dsimp only at t
      by_cases g : (T 10 i ||| 2 ^ i) &&& f = 0
      · rw [sq_wn (by simp [g])] at t
        exact br_t ((sq_z hf).mpr g) (nm_r (nI_1 i) t)
      · exact br_f (fun q => g ((sq_z hf).mp q)) (nm_r (sq_wj hi (by simp [g, z])) (nm_r (nI_1 i) t))
    · have t := hw (upd s i 0) ⟨sq_fill (f := fun j => r (if T 11 j = 1 then V j else 0)) rfl h.1 (by show _ = r (if T 11 i = 1 then V i else 0); rw [if_neg z, hr.1]), sq_rest (f := fun j => r (V j)) rfl h.2⟩
      try dsimp only at t
      rw [sq_wn (by simp [z])] at t
      exact t
end
section
/-! renew: one lemma over closed tables -/
/-- the picture: T k is the k-th array's table; 2: contents (numbers by name), 12: values by name -/
def sq_M (r : Nat → Int32) (T : Nat → Nat → Nat) (u : St2) : Prop := match u with
  | (_, a1, a2, a3, a4, a5, a6, _, a8, a9, a10, a11, a12, _) => (∀ j, j < 36 → a1 j = nI (T 1 j)) ∧ (∀ j, j < 36 → a2 j = sq_a r (T 1) (T 2) j) ∧ (∀ j, j < 36 → a3 j = nI (T 3 j)) ∧ (∀ j, j < 36 → a4 j = nI (T 4 j)) ∧ (∀ j, j < 36 → a5 j = sq_s (T 5 j)) ∧ (∀ j, j < 36 → a6 j = sq_s (T 6 j)) ∧ (∀ j, j < 36 → a8 j = nI (T 8 j)) ∧ (∀ j, j < 36 → a9 j = lN (T 9 j)) ∧ (∀ j, j < 36 → a10 j = lN (T 10 j)) ∧ (∀ j, j < 36 → a11 j = nI (T 11 j)) ∧ (∀ j, j < 36 → a12 j = r (T 12 j))
/-- how the spreads lie: none; the one at 14 laid out; the one at 14 blocked -/
abbrev sq_L (T : Nat → Nat → Nat) (F : Nat) : Prop :=
  (∀ j, j < 36 → T 1 j ≠ 5 ∧ T 5 j = 36 ∧ T 6 j = 36 ∧ T 8 j = 0) ∨
  ((∀ j, j < 36 → (T 1 j = 5 ↔ j = 14) ∧ T 5 j = sq_O j ∧ T 6 j = sq_S j ∧ T 8 j = 0) ∧ T 2 14 = 0 ∧ T 3 14 = 7 ∧ 3178496 &&& F = 0) ∨
  ((∀ j, j < 36 → (T 1 j = 5 ↔ j = 14) ∧ T 5 j = 36 ∧ T 6 j = 36 ∧ T 8 j = if j = 14 then 1 else 0) ∧ T 2 14 = 0 ∧ T 3 14 = 7 ∧ ¬ 3178496 &&& F = 0)
theorem sq_lo {post : St2 → Prop} {r : Nat → Int32} {f F : Nat} {a1 a2 a3 a4 a5 a6 a7 a8 : Nat → Int32} {a9 a10 : Nat → Int64} {a11 a12 a13 : Nat → Int32} {T : Nat → Nat → Nat} {S : Nat → Nat} (h1 : ∀ j, j < 36 → a1 j = nI (T 1 j)) (h2 : ∀ j, j < 36 → a2 j = sq_a r (T 1) (T 2) j) (h3 : ∀ j, j < 36 → a3 j = nI (T 3 j)) (h6 : ∀ j, j < 36 → a6 j = sq_s (S j)) (hK : ∀ j, j < 36 → T 1 j < 7) (hS : ∀ j, j < 36 → S j < 37 ∧ T 6 j < 37)
    (eF : sq_w 0 (fun i => decide (T 1 i ≠ 0)) 36 = F) (hF : F < 2 ^ 36) (hL : sq_L T F)
    (H : ∀ b5 b6 b7 b8 : Nat → Int32, (∀ j, j < 36 → b5 j = sq_s (T 5 j)) → (∀ j, j < 36 → b6 j = sq_s (T 6 j)) → (∀ j, j < 36 → b8 j = nI (T 8 j)) → post (lN (sq_w f (fun i => decide (T 6 i ≠ S i)) 36), a1, a2, a3, a4, b5, b6, b7, b8, a9, a10, a11, a12, a13)) : wpX_layOut post (lN f, a1, a2, a3, a4, a5, a6, a7, a8, a9, a10, a11, a12, a13) := by
  refine sq_l4 h1 hK (fun b5 b6 b7 b8 q5 q6 q7 q8 => ?_)
  rw [eF]
  have q7' : ∀ j, j < 36 → b7 j = sq_s (S j) := fun j hj => by rw [q7 j hj, h6 j hj]
  rcases hL with g | g | g
  · refine sq_l75n h1 hK (fun j hj => (g j hj).1) (sq_l172 hS (fun j hj => ?_) q7' (H _ _ _ _ (fun j hj => ?_) (fun j hj => ?_) (fun j hj => ?_)))
    · rw [q6 j hj, (g j hj).2.2.1]; rfl
    · rw [q5 j hj, (g j hj).2.1]; rfl
    · rw [q6 j hj, (g j hj).2.2.1]; rfl
    · rw [q8 j hj, (g j hj).2.2.2]; rfl
  · obtain ⟨g, ga, gb, gx⟩ := g
    have k14 : T 1 14 = 5 := (g 14 (by decide)).1.mpr rfl
    refine sq_l75o h1 hK (fun j hj => (g j hj).1) (by rw [h2 14 (by decide), sq_a_n (by omega), ga]) (by rw [h3 14 (by decide), gb]) hF gx q5 q6 (fun c5 c6 p5 p6 => ?_)
    have p5' : ∀ j, j < 36 → c5 j = sq_s (T 5 j) := fun j hj => by rw [p5 j hj, (g j hj).2.1]
    have p6' : ∀ j, j < 36 → c6 j = sq_s (T 6 j) := fun j hj => by rw [p6 j hj, (g j hj).2.2.1]
    exact sq_l172 hS p6' q7' (H _ _ _ _ p5' p6' (fun j hj => by rw [q8 j hj, (g j hj).2.2.2]; rfl))
  · obtain ⟨g, ga, gb, gx⟩ := g
    have k14 : T 1 14 = 5 := (g 14 (by decide)).1.mpr rfl
    refine sq_l75b h1 hK (fun j hj => (g j hj).1) (by rw [h2 14 (by decide), sq_a_n (by omega), ga]) (by rw [h3 14 (by decide), gb]) hF gx q8 (fun c8 p8 => ?_)
    have p6' : ∀ j, j < 36 → b6 j = sq_s (T 6 j) := fun j hj => by rw [q6 j hj, (g j hj).2.2.1]; rfl
    exact sq_l172 hS p6' q7' (H _ _ _ _ (fun j hj => by rw [q5 j hj, (g j hj).2.1]; rfl) p6' (fun j hj => by rw [p8 j hj, (g j hj).2.2.2]))
/-- bounds of two tables, the old and the new -/
abbrev sq_B (T T' : Nat → Nat → Nat) (j : Nat) : Prop := T' 1 j < 7 ∧ T 6 j < 37 ∧ T' 6 j < 37 ∧ T 9 j < 2 ^ 36 ∧ T' 9 j < 2 ^ 36 ∧ T' 8 j < 2 ∧ T 11 j < 4 ∧ T' 11 j < 4
theorem sq_rn {post : St2 → Prop} {r : Nat → Int32} {f : Int64} {a1 a2 a3 a4 a5 a6 a7 a8 : Nat → Int32} {a9 a10 : Nat → Int64} {a11 a12 a13 : Nat → Int32} (T T' : Nat → Nat → Nat) (c F f1 f2 f3 cc g w : Nat) (hr : sq_E r)
    (h1 : ∀ j, j < 36 → a1 j = nI (T' 1 j)) (h2 : ∀ j, j < 36 → a2 j = sq_a r (T' 1) (T' 2) j) (h3 : ∀ j, j < 36 → a3 j = nI (T' 3 j)) (h4 : ∀ j, j < 36 → a4 j = nI (T' 4 j)) (h6 : ∀ j, j < 36 → a6 j = sq_s (T 6 j)) (h9 : ∀ j, j < 36 → a9 j = lN (T 9 j)) (h11 : ∀ j, j < 36 → a11 j = nI (T 11 j)) (h12 : ∀ j, j < 36 → a12 j = r (T 12 j))
    (hb : c < 36 ∧ F < 2 ^ 36 ∧ f3 < 2 ^ 36 ∧ cc < 2 ^ 36 ∧ g < 2 ^ 36 ∧ w < 2 ^ 36)
    (hB : ∀ j, j < 36 → sq_B T T' j)
    (eF : sq_w 0 (fun i => decide (T' 1 i ≠ 0)) 36 = F) (hL : sq_L T' F)
    (e1 : sq_w (2 ^ c) (fun i => decide (T' 6 i ≠ T 6 i)) 36 = f1)
    (hW : ∀ j, j < 36 → sq_W (T' 1) (T' 2) (T' 3) (T' 4) (T' 6) (T' 9) j)
    (e2 : sq_w f1 (fun i => decide (T' 9 i ≠ T 9 i)) 36 = f2)
    (eC : ∀ j, j < 36 → sq_cl (T' 9) 36 j = T' 10 j)
    (ec : sq_w 0 (fun i => (T' 10 i).testBit i) 36 = cc) (eg : sq_w 0 (fun i => decide (T' 8 i ≠ 0 ∨ T' 1 i = 6)) 36 = g)
    (eS : ∀ j, j < 36 → sq_st (T' 1) (T' 6) (T' 10) cc g j = T' 11 j)
    (e3 : sq_w f2 (fun i => decide (sq_st (T' 1) (T' 6) (T' 10) cc g i ≠ T 11 i)) 36 = f3)
    (ew : sq_w 0 (fun i => decide (T' 11 i = 1 ∧ (T' 10 i ||| 2 ^ i) &&& f3 ≠ 0)) 36 = w)
    (hV : ∀ j, j < 36 → w.testBit j = false → (if T' 11 j = 1 then T 12 j else 0) = T' 12 j)
    (hR : ∀ j, j < 36 → sq_R T' w j) (h36 : sq_x w 36 = 0)
    (H : ∀ u : St2, sq_M r T' u → post u) : wpX_renew post (f, a1, a2, a3, a4, a5, a6, a7, a8, a9, a10, a11, a12, a13) (nI c) := by
  obtain ⟨bc, bF, b3, bcc, bg, bw⟩ := hb
  refine nm_r (sq_1 c bc) ?_
  refine sq_lo (T := T') (F := F) (S := T 6) h1 h2 h3 h6 (fun j hj => (hB j hj).1) (fun j hj => ⟨(hB j hj).2.1, (hB j hj).2.2.1⟩) eF bF hL (fun b5 b6 b7 b8 q5 q6 q8 => ?_)
  rw [e1]
  dsimp only
  refine sq_fw (D := T 9) (D' := T' 9) (K := T' 1) (A := T' 2) (B := T' 3) (C := T' 4) (S := T' 6) h1 (fun j hj => (hB j hj).1) h2 h3 h4 q6 h9 (fun j hj => ⟨(hB j hj).2.2.2.1, (hB j hj).2.2.2.2.1⟩) hW (fun b9 q9 => ?_)
  rw [e2]
  dsimp only
  refine sq_clo (D := T' 9) (fun j hj => (hB j hj).2.2.2.2.1) q9 (fun b10 q10 => ?_)
  have q10' : ∀ j, j < 36 → b10 j = lN (T' 10 j) := fun j hj => by rw [q10 j hj, eC j hj]
  dsimp only
  refine sq_fs (K := T' 1) (S := T' 6) (Bl := T' 8) (Cl := T' 10) (St := T 11) (c := cc) (g := g) h1 (fun j hj => (hB j hj).1) q6 (fun j hj => (hB j hj).2.2.1) q8 (fun j hj => (hB j hj).2.2.2.2.2.1) q10' h11 (fun j hj => (hB j hj).2.2.2.2.2.2.1) ec eg bcc bg (fun b11 q11 => ?_)
  rw [e3]
  have q11' : ∀ j, j < 36 → b11 j = nI (T' 11 j) := fun j hj => by rw [q11 j hj, eS j hj]
  dsimp only
  refine sq_wo (T := T') (V := T 12) (w := w) hr (fun j hj => (hB j hj).1) h1 h2 h3 h4 q6 q9 q10' q11' (fun j hj => (hB j hj).2.2.2.2.2.2.2) h12 b3 ew hV bw hR h36 (fun b12 q12 => ?_)
  exact H _ ⟨h1, h2, h3, h4, q5, q6, q8, q9, q10', q11', q12⟩
/-- the whole step of a change at cell c: K, A, B, C written, then renew -/
abbrev sq_N (T T' : Nat → Nat → Nat) (c k a b d : Nat) : Prop := T' 1 c = k ∧ T' 2 c = a ∧ T' 3 c = b ∧ T' 4 c = d ∧ ∀ j, j < 36 → j ≠ c → T' 1 j = T 1 j ∧ T' 2 j = T 2 j ∧ T' 3 j = T 3 j ∧ T' 4 j = T 4 j
theorem sq_ul {s : Nat → Int32} {f g : Nat → Int32} {c : Nat} {x : Int32} (hc : c < 36) (h : ∀ j, j < 36 → s j = f j) (hx : x = g c) (ho : ∀ j, j < 36 → j ≠ c → f j = g j) : ∀ j, j < 36 → upd s (nI c).toNatClampNeg x j = g j := by
  intro j hj
  rw [sq_c hc]
  by_cases e : j = c
  · rw [e, pk_us, hx]
  · rw [pk_un e, h j hj, ho j hj e]
/-- write and renew: all that the tables must meet, closed -/
abbrev sq_Q (T T' : Nat → Nat → Nat) (c F f1 f2 f3 cc g w : Nat) : Prop :=
  (c < 36 ∧ F < 2 ^ 36 ∧ f3 < 2 ^ 36 ∧ cc < 2 ^ 36 ∧ g < 2 ^ 36 ∧ w < 2 ^ 36) ∧
  (∀ j, j < 36 → sq_B T T' j) ∧
  sq_w 0 (fun i => decide (T' 1 i ≠ 0)) 36 = F ∧ sq_L T' F ∧
  sq_w (2 ^ c) (fun i => decide (T' 6 i ≠ T 6 i)) 36 = f1 ∧
  (∀ j, j < 36 → sq_W (T' 1) (T' 2) (T' 3) (T' 4) (T' 6) (T' 9) j) ∧
  sq_w f1 (fun i => decide (T' 9 i ≠ T 9 i)) 36 = f2 ∧
  sq_w 0 (fun i => (T' 10 i).testBit i) 36 = cc ∧ sq_w 0 (fun i => decide (T' 8 i ≠ 0 ∨ T' 1 i = 6)) 36 = g ∧
  (∀ j, j < 36 → sq_st (T' 1) (T' 6) (T' 10) cc g j = T' 11 j) ∧
  sq_w f2 (fun i => decide (sq_st (T' 1) (T' 6) (T' 10) cc g i ≠ T 11 i)) 36 = f3 ∧
  sq_w 0 (fun i => decide (T' 11 i = 1 ∧ (T' 10 i ||| 2 ^ i) &&& f3 ≠ 0)) 36 = w ∧
  (∀ j, j < 36 → w.testBit j = false → (if T' 11 j = 1 then T 12 j else 0) = T' 12 j) ∧
  (∀ j, j < 36 → sq_R T' w j) ∧ sq_x w 36 = 0
/-- a step: any post, any values -/
def sq_step (T T' : Nat → Nat → Nat) (c k a b d : Nat) : Prop := ∀ (r : Nat → Int32) (P : St2 → Prop) (u : St2) (x : Int32), sq_E r → sq_M r T u → x = (if k = 1 then r a else nI a) →
  (∀ v : St2, (∀ post : St2 → Prop, (∀ v' : St2, sq_M r T' v' → post v') → wpX_renew post v (nI c)) → P v) → wpX_write P u (nI c) (nI k) x (nI b) (nI d)
theorem sq_do {T T' : Nat → Nat → Nat} {c k a b d F f1 f2 f3 cc g w : Nat} (hN : sq_N T T' c k a b d) (hQ : sq_Q T T' c F f1 f2 f3 cc g w) (eC : ∀ j, j < 36 → sq_cl (T' 9) 36 j = T' 10 j) : sq_step T T' c k a b d := by
  intro r P u x hr hM hx HP
  obtain ⟨hb, hB, eF, hL, e1, hW, e2, ec, eg, eS, e3, ew, hV, hR, h36⟩ := hQ
  obtain ⟨n1, n2, n3, n4, no⟩ := hN
  have hc := hb.1
  obtain ⟨f, a1, a2, a3, a4, a5, a6, a7, a8, a9, a10, a11, a12, a13⟩ := u
  obtain ⟨m1, m2, m3, m4, m5, m6, m8, m9, m10, m11, m12⟩ := hM
  refine ⟨pk_in c 36 hc, nm_e ⟨pk_in c 36 hc, nm_e ⟨pk_in c 36 hc, nm_e ⟨pk_in c 36 hc, nm_e (HP _ (fun post H => ?_))⟩⟩⟩⟩
  refine sq_rn T T' c F f1 f2 f3 cc g w hr ?_ ?_ ?_ ?_ m6 m9 m11 m12 hb hB eF hL e1 hW e2 eC ec eg eS e3 ew hV hR h36 H
  · exact sq_ul (f := fun j => nI (T 1 j)) (g := fun j => nI (T' 1 j)) hc m1 (congrArg nI n1.symm) (fun j hj e => congrArg nI (no j hj e).1.symm)
  · refine sq_ul (f := fun j => sq_a r (T 1) (T 2) j) (g := fun j => sq_a r (T' 1) (T' 2) j) hc m2 ?_ (fun j hj e => ?_)
    · rw [hx]
      show _ = if T' 1 c = 1 then r (T' 2 c) else nI (T' 2 c)
      rw [n1, n2]
    · show (if T 1 j = 1 then r (T 2 j) else nI (T 2 j)) = if T' 1 j = 1 then r (T' 2 j) else nI (T' 2 j)
      rw [(no j hj e).1, (no j hj e).2.1]
  · exact sq_ul (f := fun j => nI (T 3 j)) (g := fun j => nI (T' 3 j)) hc m3 (congrArg nI n3.symm) (fun j hj e => congrArg nI (no j hj e).2.2.1.symm)
  · exact sq_ul (f := fun j => nI (T 4 j)) (g := fun j => nI (T' 4 j)) hc m4 (congrArg nI n4.symm) (fun j hj e => congrArg nI (no j hj e).2.2.2.symm)
end
section
/-! the methods over the picture -/
theorem sq_ic {post : Int32 → Prop} {c : Nat} (hc : c < 36) (H : post 1) : wpX_isCell post () (nI c) :=
  br_f (nI_pos (by omega)) (pk_le 36 c (fun z => absurd z (by omega)) (fun _ => H))
theorem sq_value {post : Int32 → Prop} {u : St2} {r : Nat → Int32} {T : Nat → Nat → Nat} (c : Nat) {p : Int32} (hc : c < 36) (hp : p = nI c) (hM : sq_M r T u) (H : post (r (T 12 c))) : wpX_value post u p := by
  subst hp
  obtain ⟨f, a1, a2, a3, a4, a5, a6, a7, a8, a9, a10, a11, a12, a13⟩ := u
  obtain ⟨m1, m2, m3, m4, m5, m6, m8, m9, m10, m11, m12⟩ := hM
  unfold wpX_value
  refine sq_ic hc (br_f (by decide) ⟨pk_in c 36 hc, ?_⟩)
  rw [sq_c hc, m12 c hc]
  exact H
theorem sq_shows {post : Int32 → Prop} {u : St2} {r : Nat → Int32} {T : Nat → Nat → Nat} (c : Nat) {p : Int32} (hc : c < 36) (hp : p = nI c) (hM : sq_M r T u) (H : post (sq_s (T 6 c))) : wpX_shows post u p := by
  subst hp
  obtain ⟨f, a1, a2, a3, a4, a5, a6, a7, a8, a9, a10, a11, a12, a13⟩ := u
  obtain ⟨m1, m2, m3, m4, m5, m6, m8, m9, m10, m11, m12⟩ := hM
  unfold wpX_shows
  refine sq_ic hc (br_f (by decide) ⟨pk_in c 36 hc, ?_⟩)
  rw [sq_c hc, m6 c hc]
  exact H
theorem sq_owner {post : Int32 → Prop} {u : St2} {r : Nat → Int32} {T : Nat → Nat → Nat} (c : Nat) {p : Int32} (hc : c < 36) (hp : p = nI c) (hM : sq_M r T u) (H : post (sq_s (T 5 c))) : wpX_owner post u p := by
  subst hp
  obtain ⟨f, a1, a2, a3, a4, a5, a6, a7, a8, a9, a10, a11, a12, a13⟩ := u
  obtain ⟨m1, m2, m3, m4, m5, m6, m8, m9, m10, m11, m12⟩ := hM
  unfold wpX_owner
  refine sq_ic hc (br_f (by decide) ⟨pk_in c 36 hc, ?_⟩)
  rw [sq_c hc, m5 c hc]
  exact H
theorem sq_sources {post : Int64 → Prop} {u : St2} {r : Nat → Int32} {T : Nat → Nat → Nat} (c : Nat) {p : Int32} (hc : c < 36) (hp : p = nI c) (hM : sq_M r T u) (H : post (lN (T 10 c))) : wpX_sources post u p := by
  subst hp
  obtain ⟨f, a1, a2, a3, a4, a5, a6, a7, a8, a9, a10, a11, a12, a13⟩ := u
  obtain ⟨m1, m2, m3, m4, m5, m6, m8, m9, m10, m11, m12⟩ := hM
  unfold wpX_sources
  refine sq_ic hc (br_f (by decide) ⟨pk_in c 36 hc, ?_⟩)
  rw [sq_c hc, m10 c hc]
  exact H
theorem sq_state {post : Int32 → Prop} {u : St2} {r : Nat → Int32} {T : Nat → Nat → Nat} (c : Nat) {p : Int32} (hc : c < 36) (hp : p = nI c) (hM : sq_M r T u) (H : post (nI (T 11 c))) : wpX_state post u p := by
  subst hp
  obtain ⟨f, a1, a2, a3, a4, a5, a6, a7, a8, a9, a10, a11, a12, a13⟩ := u
  obtain ⟨m1, m2, m3, m4, m5, m6, m8, m9, m10, m11, m12⟩ := hM
  unfold wpX_state
  refine sq_ic hc (br_f (by decide) ⟨pk_in c 36 hc, ?_⟩)
  rw [sq_c hc, m11 c hc]
  exact H
theorem sq_number {post : Int32 → St2 → Prop} {u : St2} {r : Nat → Int32} {T T' : Nat → Nat → Nat} (c a : Nat) {p x : Int32} (hc : c < 36) (hp : p = nI c) (hst : sq_step T T' c 1 a 0 0) (hr : sq_E r) (hM : sq_M r T u) (hx : x = r a) (lo : ¬ x < -1000) (up : x ≤ 1000) (H : ∀ v : St2, sq_M r T' v → post 0 v) : wpX_number post u p x := by
  subst hp
  obtain ⟨f, a1, a2, a3, a4, a5, a6, a7, a8, a9, a10, a11, a12, a13⟩ := u
  unfold wpX_number
  refine sq_ic hc (br_f (by decide) (br_f lo (br_t up ?_)))
  refine hst r _ _ x hr hM hx (fun v hv => ?_)
  obtain ⟨g, b1, b2, b3, b4, b5, b6, b7, b8, b9, b10, b11, b12, b13⟩ := v
  refine hv _ (fun v' hv' => ?_)
  obtain ⟨g', d1, d2, d3, d4, d5, d6, d7, d8, d9, d10, d11, d12, d13⟩ := v'
  exact H _ hv'
theorem sq_spread {post : Int32 → St2 → Prop} {u : St2} {r : Nat → Int32} {T T' : Nat → Nat → Nat} (hst : sq_step T T' 14 5 0 7 0) (hr : sq_E r) (hM : sq_M r T u) (h8 : T' 8 14 = 0) (H : ∀ v : St2, sq_M r T' v → post 1 v) : wpX_spread post u 14 7 := by
  obtain ⟨f, a1, a2, a3, a4, a5, a6, a7, a8, a9, a10, a11, a12, a13⟩ := u
  unfold wpX_spread
  refine sq_ic (c := 14) (by decide) (br_f (by decide) ?_)
  refine ⟨by decide, nm_e ⟨by decide, nm_e (br_f (by decide +kernel) (br_f (by decide +kernel) ⟨by decide, by decide, br_f (by decide +kernel) ⟨by decide, by decide, br_f (by decide +kernel) (br_f (by decide) ⟨by decide, by decide, ?_⟩)⟩⟩))⟩⟩
  rw [show (7 : Int32) / 36 = nI 0 by decide +kernel, show (7 : Int32) - nI 0 * 36 = nI 7 by decide +kernel]
  refine hst r _ _ _ hr hM rfl (fun v hv => ?_)
  obtain ⟨g, b1, b2, b3, b4, b5, b6, b7, b8, b9, b10, b11, b12, b13⟩ := v
  refine hv _ (fun v' hv' => ?_)
  obtain ⟨g', d1, d2, d3, d4, d5, d6, d7, d8, d9, d10, d11, d12, d13⟩ := v'
  have e8 : d8 14 = 0 := by rw [hv'.2.2.2.2.2.2.1 14 (by decide), h8]; rfl
  exact ⟨pk_in 14 36 (by decide), br_t (by rw [show (14 : Int32).toNatClampNeg = 14 from sq_c (i := 14) (by decide)]; exact e8) (H _ hv')⟩
theorem sq_sum {post : Int32 → St2 → Prop} {u : St2} {r : Nat → Int32} {T T' : Nat → Nat → Nat} (hst : sq_step T T' 35 3 14 21 0) (hr : sq_E r) (hM : sq_M r T u) (H : ∀ v : St2, sq_M r T' v → post 4 v) : wpX_sum post u 35 525 := by
  obtain ⟨f, a1, a2, a3, a4, a5, a6, a7, a8, a9, a10, a11, a12, a13⟩ := u
  unfold wpX_sum
  refine sq_ic (c := 35) (by decide) (br_f (by decide) ?_)
  refine ⟨by decide, nm_r (e' := nI 14) (by decide +kernel) ⟨by decide, nm_r (e' := nI 21) (by decide +kernel) (br_f (by decide +kernel) (br_f (by decide +kernel) ⟨by decide, by decide, br_f (by decide +kernel) ⟨by decide, by decide, br_f (by decide +kernel) (br_f (by decide) ⟨by decide, nm_r (e' := nI 14) (by decide +kernel) ⟨by decide, nm_r (e' := nI 21) (by decide +kernel) ?_⟩⟩)⟩⟩))⟩⟩
  refine hst r _ _ _ hr hM rfl (fun v hv => ?_)
  obtain ⟨g, b1, b2, b3, b4, b5, b6, b7, b8, b9, b10, b11, b12, b13⟩ := v
  refine hv _ (fun v' hv' => ?_)
  obtain ⟨g', d1, d2, d3, d4, d5, d6, d7, d8, d9, d10, d11, d12, d13⟩ := v'
  refine ⟨by decide, by decide, by decide, by decide, ?_⟩
  rw [show ((((nI 21 / 6) - (nI 14 / 6)) + 1) * (((nI 21 - nI 21 / 6 * 6) - (nI 14 - nI 14 / 6 * 6)) + 1)) = 4 by decide +kernel]
  exact H _ hv'
theorem sq_choice {post : Int32 → St2 → Prop} {u : St2} {r : Nat → Int32} {T T' : Nat → Nat → Nat} (hst : sq_step T T' 34 4 14 15 20) (hr : sq_E r) (hM : sq_M r T u) (H : ∀ v : St2, sq_M r T' v → post 0 v) : wpX_choice post u 34 14 15 20 := by
  obtain ⟨f, a1, a2, a3, a4, a5, a6, a7, a8, a9, a10, a11, a12, a13⟩ := u
  unfold wpX_choice
  refine sq_ic (c := 34) (by decide) (br_f (by decide) ?_)
  refine sq_ic (c := 14) (by decide) (br_f (by decide) ?_)
  refine sq_ic (c := 15) (by decide) (br_f (by decide) ?_)
  refine sq_ic (c := 20) (by decide) (br_f (by decide) ?_)
  refine hst r _ _ _ hr hM rfl (fun v hv => ?_)
  obtain ⟨g, b1, b2, b3, b4, b5, b6, b7, b8, b9, b10, b11, b12, b13⟩ := v
  refine hv _ (fun v' hv' => ?_)
  obtain ⟨g', d1, d2, d3, d4, d5, d6, d7, d8, d9, d10, d11, d12, d13⟩ := v'
  exact H _ hv'
theorem sq_erase {post : Int32 → St2 → Prop} {u : St2} {r : Nat → Int32} {T T' : Nat → Nat → Nat} (hst : sq_step T T' 21 0 0 0 0) (hr : sq_E r) (hM : sq_M r T u) (h1 : T 1 21 = 1) (H : ∀ v : St2, sq_M r T' v → post 1 v) : wpX_erase post u 21 := by
  obtain ⟨f, a1, a2, a3, a4, a5, a6, a7, a8, a9, a10, a11, a12, a13⟩ := u
  have e1 : a1 21 = 1 := by rw [hM.1 21 (by decide), h1]; rfl
  unfold wpX_erase
  refine sq_ic (c := 21) (by decide) (br_f (by decide) ⟨pk_in 21 36 (by decide), br_f ?_ ?_⟩)
  · rw [show (21 : Int32).toNatClampNeg = 21 from sq_c (i := 21) (by decide), e1]
    decide
  · unfold wX_erase_23
    refine hst r _ _ _ hr hM rfl (fun v hv => ?_)
    obtain ⟨g, b1, b2, b3, b4, b5, b6, b7, b8, b9, b10, b11, b12, b13⟩ := v
    refine hv _ (fun v' hv' => ?_)
    obtain ⟨g', d1, d2, d3, d4, d5, d6, d7, d8, d9, d10, d11, d12, d13⟩ := v'
    exact H _ hv'
theorem sq_pair {post : Int32 → St2 → Prop} {u : St2} {r : Nat → Int32} {T T' : Nat → Nat → Nat} (hst : sq_step T T' 0 2 35 1 0) (hr : sq_E r) (hM : sq_M r T u) (H : ∀ v : St2, sq_M r T' v → post 0 v) : wpX_pair post u 0 0 35 1 := by
  obtain ⟨f, a1, a2, a3, a4, a5, a6, a7, a8, a9, a10, a11, a12, a13⟩ := u
  unfold wpX_pair
  refine sq_ic (c := 0) (by decide) (br_f (by decide) (br_f (by decide) (br_t (by decide) ?_)))
  refine sq_ic (c := 35) (by decide) (br_f (by decide) ?_)
  refine sq_ic (c := 1) (by decide) (br_f (by decide) ?_)
  refine hst r _ _ _ hr hM rfl (fun v hv => ?_)
  obtain ⟨g, b1, b2, b3, b4, b5, b6, b7, b8, b9, b10, b11, b12, b13⟩ := v
  refine hv _ (fun v' hv' => ?_)
  obtain ⟨g', d1, d2, d3, d4, d5, d6, d7, d8, d9, d10, d11, d12, d13⟩ := v'
  exact H _ hv'
/-! inState -/
def sq_n (St : Nat → Nat) : Nat → Nat
  | 0 => 0
  | n + 1 => sq_n St n + (if St n = 2 then 1 else 0)
theorem sq_n_b (St : Nat → Nat) (n : Nat) : sq_n St n ≤ n := by
  induction n with
  | zero => exact Nat.le_refl 0
  | succ n ih =>
    show sq_n St n + (if St n = 2 then 1 else 0) ≤ n + 1
    split <;> omega
theorem sq_inState {post : Int32 → Prop} {u : St2} {r : Nat → Int32} {T : Nat → Nat → Nat} (hM : sq_M r T u) (hSt : ∀ j, j < 36 → T 11 j < 4) (H : post (nI (sq_n (T 11) 36))) : wpX_inState post u 2 := by
  obtain ⟨f, a1, a2, a3, a4, a5, a6, a7, a8, a9, a10, a11, a12, a13⟩ := u
  obtain ⟨m1, m2, m3, m4, m5, m6, m8, m9, m10, m11, m12⟩ := hM
  refine br_f (by decide) (br_t (by decide) ?_)
  refine pk_loop (σ := Unit) (fun n i _ => wX_inState_15 post 2 f a1 a2 a3 a4 a5 a6 a7 a8 a9 a10 a11 a12 a13 n (nI (sq_n (T 11) i)) (nI i)) (fun _ _ => True) 36 0 () (by omega) trivial ?_ ?_
  · intro n _ _
    exact pk_le 36 36 (fun _ => H) (fun z => absurd z (by omega))
  · intro n i _ hi _ hw
    have t : wX_inState_15 post 2 f a1 a2 a3 a4 a5 a6 a7 a8 a9 a10 a11 a12 a13 n (nI (sq_n (T 11) i + (if T 11 i = 2 then 1 else 0))) (nI (i + 1)) := hw () trivial
    have b := hSt i hi
    refine pk_le 36 i (fun z => absurd z (by omega)) (fun _ => ⟨pk_in i 36 hi, ?_⟩)
    rw [sq_c hi, m11 i hi]
    refine pk_eq (T 11 i) 2 (fun z => ?_) (fun z => ?_)
    · rw [if_pos z] at t
      exact nm_r (nI_1 _) (nm_r (nI_1 i) t)
    · rw [if_neg z] at t
      exact nm_r (nI_add _ 0) (nm_r (nI_1 i) t)
/-! depth -/
def sq_d (d : Nat) (G : Nat → Nat) : Nat → Nat
  | 0 => 0
  | n + 1 => if d.testBit n = true ∧ sq_d d G n < G n then G n else sq_d d G n
theorem sq_d_b {d : Nat} {G : Nat → Nat} (h : ∀ j, j < 36 → G j < 37) : ∀ n, n ≤ 36 → sq_d d G n < 37 := by
  intro n
  induction n with
  | zero => exact fun _ => by show 0 < 37; decide
  | succ n ih =>
    intro hn
    show (if d.testBit n = true ∧ sq_d d G n < G n then G n else sq_d d G n) < 37
    split
    · exact h n (by omega)
    · exact ih (by omega)
theorem sq_dp {post : Int32 → Prop} {f : Int64} {a1 a2 a3 a4 a5 a6 a7 a8 : Nat → Int32} {a9 a10 : Nat → Int64} {a11 a12 a13 : Nat → Int32} {d : Nat} {x : Int64} {G : Nat → Nat} (hx : x = lN d) (hd : d < 2 ^ 36) (hG : ∀ j, j < 36 → G j < 37) (h13 : ∀ j, j < 36 → a13 j = nI (G j)) (H : post (nI (sq_d d G 36))) : wpX_deepest post (f, a1, a2, a3, a4, a5, a6, a7, a8, a9, a10, a11, a12, a13) x := by
  subst hx
  refine pk_loop (σ := Unit) (fun n i _ => wX_deepest_5 post (lN d) f a1 a2 a3 a4 a5 a6 a7 a8 a9 a10 a11 a12 a13 n (nI (sq_d d G i)) (nI i)) (fun _ _ => True) 36 0 () (by omega) trivial ?_ ?_
  · intro n _ _
    exact pk_le 36 36 (fun _ => H) (fun z => absurd z (by omega))
  · intro n i _ hi _ hw
    have t : wX_deepest_5 post (lN d) f a1 a2 a3 a4 a5 a6 a7 a8 a9 a10 a11 a12 a13 n (nI (if d.testBit i = true ∧ sq_d d G i < G i then G i else sq_d d G i)) (nI (i + 1)) := hw () trivial
    have b := sq_d_b (d := d) hG i (by omega)
    have b' := hG i hi
    refine pk_le 36 i (fun z => absurd z (by omega)) (fun _ => ?_)
    by_cases g : d.testBit i = true
    · refine br_t ((sq_bit hd hi).mpr g) ⟨pk_in i 36 hi, ?_⟩
      rw [sq_c hi, h13 i hi]
      refine pk_le (G i) (sq_d d G i) (fun z => ?_) (fun z => ?_)
      · rw [if_neg (fun q => by omega)] at t
        exact nm_r (nI_1 i) t
      · rw [if_pos ⟨g, z⟩] at t
        exact ⟨pk_in i 36 hi, nm_e (nm_r (nI_1 i) t)⟩
    · rw [if_neg (fun q => g q.1)] at t
      exact br_f (fun z => g ((sq_bit hd hi).mp z)) (nm_r (nI_1 i) t)
/-- one round of depth over a table: E before, E' behind, ch: something has changed -/
abbrev sq_G (D E E' ch : Nat → Nat) (wt i : Nat) : Prop :=
  (wt.testBit i = true → E' i = (if sq_d (D i) (fun j => if j < i then E' j else E j) 36 + 1 ≤ E i then E i else sq_d (D i) (fun j => if j < i then E' j else E j) 36 + 1) ∧
    ch (i + 1) = (if ch i = 0 ∧ sq_d (D i) (fun j => if j < i then E' j else E j) 36 + 1 ≤ E i then 0 else 1)) ∧
  (wt.testBit i = false → E' i = E i ∧ ch (i + 1) = ch i)
theorem sq_d81 {post : Int32 → St2 → Prop} {J : Int32 → Int32 → (Nat → Int32) → (Nat → Int32) → (Nat → Int32) → (Nat → Int32) → (Nat → Int32) → (Nat → Int32) → (Nat → Int32) → (Nat → Int32) → (Nat → Int64) → (Nat → Int64) → (Nat → Int32) → (Nat → Int32) → (Nat → Int32) → Prop} {f : Int64} {x1 x5 : Int32} {a1 a2 a3 a4 a5 a6 a7 a8 : Nat → Int32} {a9 a10 : Nat → Int64} {a11 a12 a13 : Nat → Int32} {D E E' ch : Nat → Nat} {wt : Nat} (hwt : wt < 2 ^ 36) (h9 : ∀ j, j < 36 → a9 j = lN (D j)) (hD : ∀ j, j < 36 → D j < 2 ^ 36 ∧ E j < 37 ∧ E' j < 37 ∧ ch j < 2) (h13 : ∀ j, j < 36 → a13 j = nI (E j)) (c0 : ch 0 = 0) (hG : ∀ j, j < 36 → sq_G D E E' ch wt j)
    (H : ∀ b13 : Nat → Int32, (∀ j, j < 36 → b13 j = nI (E' j)) → J (nI (ch 36)) (x5 + 1) a1 a2 a3 a4 a5 a6 a7 a8 a9 a10 a11 a12 b13) : ∃ n, wX_depth_81 post J x1 (lN wt) x5 f n 0 0 a1 a2 a3 a4 a5 a6 a7 a8 a9 a10 a11 a12 a13 := by
  have main : ∃ n, wX_depth_81 post J x1 (lN wt) x5 f n (nI (ch 0)) (nI 0) a1 a2 a3 a4 a5 a6 a7 a8 a9 a10 a11 a12 a13 := by
    refine pk_loop (fun n i (s : Nat → Int32) => wX_depth_81 post J x1 (lN wt) x5 f n (nI (ch i)) (nI i) a1 a2 a3 a4 a5 a6 a7 a8 a9 a10 a11 a12 s)
      (fun i s => ∀ j, j < 36 → s j = nI (if j < i then E' j else E j)) 36 0 a13 (by omega) (fun j hj => by rw [h13 j hj, if_neg (by omega)]) ?_ ?_
    · intro n s h
      exact pk_le 36 36 (fun _ => nm_e (H s (fun j hj => by rw [h j hj, if_pos hj]))) (fun z => absurd z (by omega))
    · intro n i s hi h hw
      obtain ⟨q1, q2⟩ := hG i hi
      obtain ⟨bD, bE, bE', bc⟩ := hD i hi
      have hm : ∀ j, j < 36 → (if j < i then E' j else E j) < 37 := fun j hj => by
        have b := hD j hj
        split
        · exact b.2.2.1
        · exact b.2.1
      have si : s i = nI (E i) := by rw [h i hi, if_neg (by omega)]
      refine pk_le 36 i (fun z => absurd z (by omega)) (fun _ => ?_)
      by_cases g : wt.testBit i = true
      · obtain ⟨g1, g2⟩ := q1 g
        have bd := sq_d_b (d := D i) hm 36 (by omega)
        have upi : ∀ y : Int32, y = nI (E' i) → ∀ j, j < 36 → upd s i y j = nI (if j < i + 1 then E' j else E j) := by
          intro y hy j hj
          by_cases e : j = i
          · rw [e, pk_us, if_pos (by omega), hy]
          · rw [pk_un e, h j hj]
            by_cases e2 : j < i
            · rw [if_pos e2, if_pos (by omega)]
            · rw [if_neg e2, if_neg (by omega)]
        have go : ∀ z0 : Int32, z0 = nI (ch (i + 1)) → wX_depth_136 post J (wX_depth_81 post J x1 (lN wt) x5 f n) x1 (lN wt) x5 (nI i) (nI (sq_d (D i) (fun j => if j < i then E' j else E j) 36 + 1)) z0 f a1 a2 a3 a4 a5 a6 a7 a8 a9 a10 a11 a12 s := by
          intro z0 hz
          subst hz
          refine ⟨pk_in i 36 hi, ?_⟩
          rw [sq_c hi, si]
          refine pk_le (sq_d (D i) (fun j => if j < i then E' j else E j) 36 + 1) (E i) (fun z => ?_) (fun z => ?_)
          · exact ⟨pk_in i 36 hi, pk_in i 36 hi, nm_e (nm_r (nI_1 i) (hw _ (upi _ (by rw [g1, if_pos z]))))⟩
          · exact ⟨pk_in i 36 hi, nm_e (nm_r (nI_1 i) (hw _ (upi _ (by rw [g1, if_neg (by omega)]))))⟩
        refine br_t ((sq_bit hwt hi).mpr g) ⟨pk_in i 36 hi, ?_⟩
        rw [sq_c hi]
        refine sq_dp (G := fun j => if j < i then E' j else E j) (h9 i hi) bD hm h (nm_r (nI_1 _) ?_)
        refine pk_eq (ch i) 0 (fun z => ⟨pk_in i 36 hi, ?_⟩) (fun z => go 1 (by rw [g2, if_neg (fun q => z q.1)]; rfl))
        rw [si]
        exact pk_le (sq_d (D i) (fun j => if j < i then E' j else E j) 36 + 1) (E i) (fun y => go 0 (by rw [g2, if_pos ⟨z, y⟩]; rfl)) (fun y => go 1 (by rw [g2, if_neg (fun q => by omega)]; rfl))
      · obtain ⟨g1, g2⟩ := q2 (Bool.eq_false_iff.mpr g)
        have t := hw s (fun j hj => by
          rw [h j hj]
          by_cases e : j = i
          · rw [e, if_neg (by omega), if_pos (by omega), g1]
          · by_cases e2 : j < i
            · rw [if_pos e2, if_pos (by omega)]
            · rw [if_neg e2, if_neg (by omega)])
        try dsimp only at t
        rw [g2] at t
        exact br_f (fun z => g ((sq_bit hwt hi).mp z)) (nm_r (nI_1 i) t)
  obtain ⟨n, hn⟩ := main
  rw [c0] at hn
  exact ⟨n, hn⟩
/-- depth of a cell in a circle -/
theorem sq_depth2 {post : Int32 → St2 → Prop} {u : St2} {r : Nat → Int32} {T : Nat → Nat → Nat} (c : Nat) {p : Int32} (hc : c < 36) (hp : p = nI c) (hM : sq_M r T u) (h2 : T 11 c = 2) (H : post (-2) u) : wpX_depth post u p := by
  subst hp
  obtain ⟨f, a1, a2, a3, a4, a5, a6, a7, a8, a9, a10, a11, a12, a13⟩ := u
  obtain ⟨m1, m2, m3, m4, m5, m6, m8, m9, m10, m11, m12⟩ := hM
  unfold wpX_depth
  refine sq_ic hc (br_f (by decide) ⟨pk_in c 36 hc, br_t ?_ H⟩)
  rw [sq_c hc, m11 c hc, h2]
  rfl
/-- depth of a cell in no circle: two rounds, the second changes nothing -/
theorem sq_depth {post : Int32 → St2 → Prop} {u : St2} {r : Nat → Int32} {T : Nat → Nat → Nat} (c v : Nat) {p : Int32} (E ch ch' : Nat → Nat) (hc : c < 36) (hp : p = nI c) (hM : sq_M r T u) (h2 : T 11 c = 1) (hwt : T 10 c ||| 2 ^ c < 2 ^ 36) (hD : ∀ j, j < 36 → T 9 j < 2 ^ 36 ∧ E j < 37 ∧ ch j < 2 ∧ ch' j < 2) (c0 : ch 0 = 0 ∧ ch 36 = 1 ∧ ch' 0 = 0 ∧ ch' 36 = 0)
    (hG : ∀ j, j < 36 → sq_G (T 9) (fun _ => 1) E ch (T 10 c ||| 2 ^ c) j) (hG' : ∀ j, j < 36 → sq_G (T 9) E E ch' (T 10 c ||| 2 ^ c) j) (hv : E c = v) (H : ∀ w : St2, sq_M r T w → post (nI v) w) : wpX_depth post u p := by
  subst hp
  obtain ⟨f, a1, a2, a3, a4, a5, a6, a7, a8, a9, a10, a11, a12, a13⟩ := u
  obtain ⟨m1, m2, m3, m4, m5, m6, m8, m9, m10, m11, m12⟩ := hM
  unfold wpX_depth
  refine sq_ic hc (br_f (by decide) ⟨pk_in c 36 hc, br_f ?_ ⟨pk_in c 36 hc, nm_r (e' := lN (T 10 c ||| 2 ^ c)) (by rw [sq_c hc, m10 c hc, sq_1 c hc, sq_or]) ?_⟩⟩)
  · rw [sq_c hc, m11 c hc, h2]
    decide
  · refine pk_loop (fun n i (s : Nat → Int32) => wX_depth_36 post (nI c) (lN (T 10 c ||| 2 ^ c)) f n (nI i) a1 a2 a3 a4 a5 a6 a7 a8 a9 a10 a11 a12 s) (fun i s => ∀ j, j < i → s j = nI 1) 36 0 a13 (by omega) lt_0 ?_ ?_
    · intro n s h
      refine pk_le 36 36 (fun _ => ⟨3, ?_⟩) (fun z => absurd z (by omega))
      refine br_f (by decide) (br_f (by decide) ?_)
      refine sq_d81 (D := T 9) (E := fun _ => 1) (E' := E) (ch := ch) hwt m9 (fun j hj => ⟨(hD j hj).1, (by show 1 < 37; decide), (hD j hj).2.1, (hD j hj).2.2.1⟩) h c0.1 hG (fun b13 q13 => ?_)
      rw [c0.2.1]
      refine br_f (by decide) (br_f (by decide) ?_)
      refine sq_d81 (D := T 9) (E := E) (E' := E) (ch := ch') hwt m9 (fun j hj => ⟨(hD j hj).1, (hD j hj).2.1, (hD j hj).2.1, (hD j hj).2.2.2⟩) q13 c0.2.2.1 hG' (fun d13 p13 => ?_)
      rw [c0.2.2.2]
      refine br_f (by decide) (br_t (by decide) ⟨pk_in c 36 hc, ?_⟩)
      rw [sq_c hc, p13 c hc, hv]
      exact H _ ⟨m1, m2, m3, m4, m5, m6, m8, m9, m10, m11, m12⟩
    · intro n i s hi h hw
      exact pk_le 36 i (fun z => absurd z (by omega)) (fun _ => ⟨pk_in i 36 hi, nm_e (nm_r (nI_1 i) (hw _ (sq_fill (f := fun _ => nI 1) (sq_c hi) h rfl)))⟩)
/-! the constructor -/
theorem sq_init {post : St2 → Prop} {f : Int64} {r : Nat → Int32} {T : Nat → Nat → Nat} (hr : r 0 = 0) (hT : ∀ j, j < 36 → T 1 j = 0 ∧ T 2 j = 0 ∧ T 3 j = 0 ∧ T 4 j = 0 ∧ T 5 j = 36 ∧ T 6 j = 36 ∧ T 8 j = 0 ∧ T 9 j = 0 ∧ T 10 j = 0 ∧ T 11 j = 0 ∧ T 12 j = 0) (H : ∀ v : St2, sq_M r T v → post v) : wpX_init post 13 468 f := by
  refine ⟨by decide, by decide, by decide, by decide, by decide, by decide, by decide, by decide, by decide, by decide, by decide, by decide, by decide, by decide, by decide, by decide, by decide, by decide, by decide, by decide, by decide, by decide, by decide, by decide, by decide, by decide, ?_⟩
  refine pk_loop (fun n i (s : (Nat → Int32) × (Nat → Int32)) => wX_init_110 post 13 468 13 468 f n (nI i) (fun _ => 0) (fun _ => 0) (fun _ => 0) (fun _ => 0) s.1 s.2 (fun _ => 0) (fun _ => 0) (fun _ => 0) (fun _ => 0) (fun _ => 0) (fun _ => 0) (fun _ => 0))
    (fun i s => (∀ j, j < i → s.1 j = -2) ∧ (∀ j, j < i → s.2 j = -2)) 36 0 ((fun _ => 0), (fun _ => 0)) (by omega) ⟨lt_0, lt_0⟩ ?_ ?_
  · intro n s h
    refine pk_le 36 36 (fun _ => H _ ⟨?_, ?_, ?_, ?_, ?_, ?_, ?_, ?_, ?_, ?_, ?_⟩) (fun z => absurd z (by omega))
    · exact fun j hj => by rw [(hT j hj).1]; rfl
    · exact fun j hj => by rw [sq_a_n (by rw [(hT j hj).1]; decide), (hT j hj).2.1]; rfl
    · exact fun j hj => by rw [(hT j hj).2.2.1]; rfl
    · exact fun j hj => by rw [(hT j hj).2.2.2.1]; rfl
    · exact fun j hj => by rw [(hT j hj).2.2.2.2.1]; exact h.1 j hj
    · exact fun j hj => by rw [(hT j hj).2.2.2.2.2.1]; exact h.2 j hj
    · exact fun j hj => by rw [(hT j hj).2.2.2.2.2.2.1]; rfl
    · exact fun j hj => by rw [(hT j hj).2.2.2.2.2.2.2.1]; rfl
    · exact fun j hj => by rw [(hT j hj).2.2.2.2.2.2.2.2.1]; rfl
    · exact fun j hj => by rw [(hT j hj).2.2.2.2.2.2.2.2.2.1]; rfl
    · exact fun j hj => by rw [(hT j hj).2.2.2.2.2.2.2.2.2.2, hr]
  · intro n i s hi h hw
    exact pk_le 36 i (fun z => absurd z (by omega)) (fun _ => ⟨pk_in i 36 hi, nm_e ⟨pk_in i 36 hi, nm_e (nm_r (nI_1 i) (hw (_, _) ⟨sq_fill (f := fun _ => -2) (sq_c hi) h.1 rfl, sq_fill (f := fun _ => -2) (sq_c hi) h.2 rfl⟩))⟩⟩)
end
section
/-! the tables of the eleven stages, printed by gen.py -/
def sq_vb (T : Nat → Nat → Nat) (w i : Nat) : Bool :=
  decide (T 6 i < 36 ∧ T 12 (T 6 i) = T 12 i ∧ (w.testBit (T 6 i) = false ∨ T 6 i < i)) || (
  decide (T 6 i = 36 ∧ T 1 i = 1 ∧ T 2 i = T 12 i) || (
  decide (T 6 i = 36 ∧ T 1 i = 3 ∧ T 2 i = 14 ∧ T 3 i = 21 ∧ 21 < i ∧ T 12 14 = 1 ∧ T 12 15 = 2 ∧ T 12 20 = 3 ∧ T 12 21 = 4 ∧ T 12 i = 6) ||
  decide (T 6 i = 36 ∧ T 1 i = 4 ∧ T 2 i = 14 ∧ T 3 i = 15 ∧ T 4 i = 20 ∧ 20 < i ∧ T 12 14 = 1 ∧ T 12 15 = 2 ∧ T 12 20 = 3 ∧ T 12 i = 7)))
theorem sq_vbc {T : Nat → Nat → Nat} {w i : Nat} (h : sq_vb T w i = true) : sq_vc T w i := by
  unfold sq_vb at h
  rw [Bool.or_eq_true, Bool.or_eq_true, Bool.or_eq_true] at h
  rcases h with h | h | h | h
  · exact Or.inl (of_decide_eq_true h)
  · exact Or.inr (Or.inl (of_decide_eq_true h))
  · exact Or.inr (Or.inr (Or.inl (of_decide_eq_true h)))
  · exact Or.inr (Or.inr (Or.inr (of_decide_eq_true h)))
theorem sq_Rm {T : Nat → Nat → Nat} {w : Nat} (h1 : ∀ j, j < 36 → sq_x w j < 2 ^ 36) (h2 : ∀ j, j < 36 → (sq_x w j).testBit j = w.testBit j) (h3 : ∀ j, j < 36 → w.testBit j = false → sq_x w (j + 1) = sq_x w j)
    (h4 : ∀ j, j < 36 → w.testBit j = true → T 9 j &&& sq_x w j = 0) (h5 : ∀ j, j < 36 → w.testBit j = true → sq_x w j &&& (2 ^ j ^^^ (2 ^ 64 - 1)) = sq_x w (j + 1)) (h6 : ∀ j, j < 36 → w.testBit j = true → sq_vb T w j = true) : ∀ j, j < 36 → sq_R T w j :=
  fun j hj => ⟨h1 j hj, h2 j hj, h3 j hj, fun g => ⟨h4 j hj g, h5 j hj g, sq_vbc (h6 j hj g)⟩⟩
def ta_0 (k i : Nat) : Nat := ([[], [0, 0, 0, 0, 0, 0, 0, 0, 0, 0, 0, 0, 0, 0, 0, 0, 0, 0, 0, 0, 0, 0, 0, 0, 0, 0, 0, 0, 0, 0, 0, 0, 0, 0, 0, 0], [0, 0, 0, 0, 0, 0, 0, 0, 0, 0, 0, 0, 0, 0, 0, 0, 0, 0, 0, 0, 0, 0, 0, 0, 0, 0, 0, 0, 0, 0, 0, 0, 0, 0, 0, 0], [0, 0, 0, 0, 0, 0, 0, 0, 0, 0, 0, 0, 0, 0, 0, 0, 0, 0, 0, 0, 0, 0, 0, 0, 0, 0, 0, 0, 0, 0, 0, 0, 0, 0, 0, 0], [0, 0, 0, 0, 0, 0, 0, 0, 0, 0, 0, 0, 0, 0, 0, 0, 0, 0, 0, 0, 0, 0, 0, 0, 0, 0, 0, 0, 0, 0, 0, 0, 0, 0, 0, 0], [36, 36, 36, 36, 36, 36, 36, 36, 36, 36, 36, 36, 36, 36, 36, 36, 36, 36, 36, 36, 36, 36, 36, 36, 36, 36, 36, 36, 36, 36, 36, 36, 36, 36, 36, 36], [36, 36, 36, 36, 36, 36, 36, 36, 36, 36, 36, 36, 36, 36, 36, 36, 36, 36, 36, 36, 36, 36, 36, 36, 36, 36, 36, 36, 36, 36, 36, 36, 36, 36, 36, 36], [], [0, 0, 0, 0, 0, 0, 0, 0, 0, 0, 0, 0, 0, 0, 0, 0, 0, 0, 0, 0, 0, 0, 0, 0, 0, 0, 0, 0, 0, 0, 0, 0, 0, 0, 0, 0], [0, 0, 0, 0, 0, 0, 0, 0, 0, 0, 0, 0, 0, 0, 0, 0, 0, 0, 0, 0, 0, 0, 0, 0, 0, 0, 0, 0, 0, 0, 0, 0, 0, 0, 0, 0], [0, 0, 0, 0, 0, 0, 0, 0, 0, 0, 0, 0, 0, 0, 0, 0, 0, 0, 0, 0, 0, 0, 0, 0, 0, 0, 0, 0, 0, 0, 0, 0, 0, 0, 0, 0], [0, 0, 0, 0, 0, 0, 0, 0, 0, 0, 0, 0, 0, 0, 0, 0, 0, 0, 0, 0, 0, 0, 0, 0, 0, 0, 0, 0, 0, 0, 0, 0, 0, 0, 0, 0], [0, 0, 0, 0, 0, 0, 0, 0, 0, 0, 0, 0, 0, 0, 0, 0, 0, 0, 0, 0, 0, 0, 0, 0, 0, 0, 0, 0, 0, 0, 0, 0, 0, 0, 0, 0]].getD k []).getD i 0
def ta_1 (k i : Nat) : Nat := ([[], [1, 0, 0, 0, 0, 0, 0, 0, 0, 0, 0, 0, 0, 0, 0, 0, 0, 0, 0, 0, 0, 0, 0, 0, 0, 0, 0, 0, 0, 0, 0, 0, 0, 0, 0, 0], [1, 0, 0, 0, 0, 0, 0, 0, 0, 0, 0, 0, 0, 0, 0, 0, 0, 0, 0, 0, 0, 0, 0, 0, 0, 0, 0, 0, 0, 0, 0, 0, 0, 0, 0, 0], [0, 0, 0, 0, 0, 0, 0, 0, 0, 0, 0, 0, 0, 0, 0, 0, 0, 0, 0, 0, 0, 0, 0, 0, 0, 0, 0, 0, 0, 0, 0, 0, 0, 0, 0, 0], [0, 0, 0, 0, 0, 0, 0, 0, 0, 0, 0, 0, 0, 0, 0, 0, 0, 0, 0, 0, 0, 0, 0, 0, 0, 0, 0, 0, 0, 0, 0, 0, 0, 0, 0, 0], [36, 36, 36, 36, 36, 36, 36, 36, 36, 36, 36, 36, 36, 36, 36, 36, 36, 36, 36, 36, 36, 36, 36, 36, 36, 36, 36, 36, 36, 36, 36, 36, 36, 36, 36, 36], [36, 36, 36, 36, 36, 36, 36, 36, 36, 36, 36, 36, 36, 36, 36, 36, 36, 36, 36, 36, 36, 36, 36, 36, 36, 36, 36, 36, 36, 36, 36, 36, 36, 36, 36, 36], [], [0, 0, 0, 0, 0, 0, 0, 0, 0, 0, 0, 0, 0, 0, 0, 0, 0, 0, 0, 0, 0, 0, 0, 0, 0, 0, 0, 0, 0, 0, 0, 0, 0, 0, 0, 0], [0, 0, 0, 0, 0, 0, 0, 0, 0, 0, 0, 0, 0, 0, 0, 0, 0, 0, 0, 0, 0, 0, 0, 0, 0, 0, 0, 0, 0, 0, 0, 0, 0, 0, 0, 0], [0, 0, 0, 0, 0, 0, 0, 0, 0, 0, 0, 0, 0, 0, 0, 0, 0, 0, 0, 0, 0, 0, 0, 0, 0, 0, 0, 0, 0, 0, 0, 0, 0, 0, 0, 0], [1, 0, 0, 0, 0, 0, 0, 0, 0, 0, 0, 0, 0, 0, 0, 0, 0, 0, 0, 0, 0, 0, 0, 0, 0, 0, 0, 0, 0, 0, 0, 0, 0, 0, 0, 0], [1, 0, 0, 0, 0, 0, 0, 0, 0, 0, 0, 0, 0, 0, 0, 0, 0, 0, 0, 0, 0, 0, 0, 0, 0, 0, 0, 0, 0, 0, 0, 0, 0, 0, 0, 0]].getD k []).getD i 0
def ta_2 (k i : Nat) : Nat := ([[], [1, 1, 0, 0, 0, 0, 0, 0, 0, 0, 0, 0, 0, 0, 0, 0, 0, 0, 0, 0, 0, 0, 0, 0, 0, 0, 0, 0, 0, 0, 0, 0, 0, 0, 0, 0], [1, 2, 0, 0, 0, 0, 0, 0, 0, 0, 0, 0, 0, 0, 0, 0, 0, 0, 0, 0, 0, 0, 0, 0, 0, 0, 0, 0, 0, 0, 0, 0, 0, 0, 0, 0], [0, 0, 0, 0, 0, 0, 0, 0, 0, 0, 0, 0, 0, 0, 0, 0, 0, 0, 0, 0, 0, 0, 0, 0, 0, 0, 0, 0, 0, 0, 0, 0, 0, 0, 0, 0], [0, 0, 0, 0, 0, 0, 0, 0, 0, 0, 0, 0, 0, 0, 0, 0, 0, 0, 0, 0, 0, 0, 0, 0, 0, 0, 0, 0, 0, 0, 0, 0, 0, 0, 0, 0], [36, 36, 36, 36, 36, 36, 36, 36, 36, 36, 36, 36, 36, 36, 36, 36, 36, 36, 36, 36, 36, 36, 36, 36, 36, 36, 36, 36, 36, 36, 36, 36, 36, 36, 36, 36], [36, 36, 36, 36, 36, 36, 36, 36, 36, 36, 36, 36, 36, 36, 36, 36, 36, 36, 36, 36, 36, 36, 36, 36, 36, 36, 36, 36, 36, 36, 36, 36, 36, 36, 36, 36], [], [0, 0, 0, 0, 0, 0, 0, 0, 0, 0, 0, 0, 0, 0, 0, 0, 0, 0, 0, 0, 0, 0, 0, 0, 0, 0, 0, 0, 0, 0, 0, 0, 0, 0, 0, 0], [0, 0, 0, 0, 0, 0, 0, 0, 0, 0, 0, 0, 0, 0, 0, 0, 0, 0, 0, 0, 0, 0, 0, 0, 0, 0, 0, 0, 0, 0, 0, 0, 0, 0, 0, 0], [0, 0, 0, 0, 0, 0, 0, 0, 0, 0, 0, 0, 0, 0, 0, 0, 0, 0, 0, 0, 0, 0, 0, 0, 0, 0, 0, 0, 0, 0, 0, 0, 0, 0, 0, 0], [1, 1, 0, 0, 0, 0, 0, 0, 0, 0, 0, 0, 0, 0, 0, 0, 0, 0, 0, 0, 0, 0, 0, 0, 0, 0, 0, 0, 0, 0, 0, 0, 0, 0, 0, 0], [1, 2, 0, 0, 0, 0, 0, 0, 0, 0, 0, 0, 0, 0, 0, 0, 0, 0, 0, 0, 0, 0, 0, 0, 0, 0, 0, 0, 0, 0, 0, 0, 0, 0, 0, 0]].getD k []).getD i 0
def ta_3 (k i : Nat) : Nat := ([[], [1, 1, 0, 0, 0, 0, 1, 0, 0, 0, 0, 0, 0, 0, 0, 0, 0, 0, 0, 0, 0, 0, 0, 0, 0, 0, 0, 0, 0, 0, 0, 0, 0, 0, 0, 0], [1, 2, 0, 0, 0, 0, 3, 0, 0, 0, 0, 0, 0, 0, 0, 0, 0, 0, 0, 0, 0, 0, 0, 0, 0, 0, 0, 0, 0, 0, 0, 0, 0, 0, 0, 0], [0, 0, 0, 0, 0, 0, 0, 0, 0, 0, 0, 0, 0, 0, 0, 0, 0, 0, 0, 0, 0, 0, 0, 0, 0, 0, 0, 0, 0, 0, 0, 0, 0, 0, 0, 0], [0, 0, 0, 0, 0, 0, 0, 0, 0, 0, 0, 0, 0, 0, 0, 0, 0, 0, 0, 0, 0, 0, 0, 0, 0, 0, 0, 0, 0, 0, 0, 0, 0, 0, 0, 0], [36, 36, 36, 36, 36, 36, 36, 36, 36, 36, 36, 36, 36, 36, 36, 36, 36, 36, 36, 36, 36, 36, 36, 36, 36, 36, 36, 36, 36, 36, 36, 36, 36, 36, 36, 36], [36, 36, 36, 36, 36, 36, 36, 36, 36, 36, 36, 36, 36, 36, 36, 36, 36, 36, 36, 36, 36, 36, 36, 36, 36, 36, 36, 36, 36, 36, 36, 36, 36, 36, 36, 36], [], [0, 0, 0, 0, 0, 0, 0, 0, 0, 0, 0, 0, 0, 0, 0, 0, 0, 0, 0, 0, 0, 0, 0, 0, 0, 0, 0, 0, 0, 0, 0, 0, 0, 0, 0, 0], [0, 0, 0, 0, 0, 0, 0, 0, 0, 0, 0, 0, 0, 0, 0, 0, 0, 0, 0, 0, 0, 0, 0, 0, 0, 0, 0, 0, 0, 0, 0, 0, 0, 0, 0, 0], [0, 0, 0, 0, 0, 0, 0, 0, 0, 0, 0, 0, 0, 0, 0, 0, 0, 0, 0, 0, 0, 0, 0, 0, 0, 0, 0, 0, 0, 0, 0, 0, 0, 0, 0, 0], [1, 1, 0, 0, 0, 0, 1, 0, 0, 0, 0, 0, 0, 0, 0, 0, 0, 0, 0, 0, 0, 0, 0, 0, 0, 0, 0, 0, 0, 0, 0, 0, 0, 0, 0, 0], [1, 2, 0, 0, 0, 0, 3, 0, 0, 0, 0, 0, 0, 0, 0, 0, 0, 0, 0, 0, 0, 0, 0, 0, 0, 0, 0, 0, 0, 0, 0, 0, 0, 0, 0, 0]].getD k []).getD i 0
def ta_4 (k i : Nat) : Nat := ([[], [1, 1, 0, 0, 0, 0, 1, 1, 0, 0, 0, 0, 0, 0, 0, 0, 0, 0, 0, 0, 0, 0, 0, 0, 0, 0, 0, 0, 0, 0, 0, 0, 0, 0, 0, 0], [1, 2, 0, 0, 0, 0, 3, 4, 0, 0, 0, 0, 0, 0, 0, 0, 0, 0, 0, 0, 0, 0, 0, 0, 0, 0, 0, 0, 0, 0, 0, 0, 0, 0, 0, 0], [0, 0, 0, 0, 0, 0, 0, 0, 0, 0, 0, 0, 0, 0, 0, 0, 0, 0, 0, 0, 0, 0, 0, 0, 0, 0, 0, 0, 0, 0, 0, 0, 0, 0, 0, 0], [0, 0, 0, 0, 0, 0, 0, 0, 0, 0, 0, 0, 0, 0, 0, 0, 0, 0, 0, 0, 0, 0, 0, 0, 0, 0, 0, 0, 0, 0, 0, 0, 0, 0, 0, 0], [36, 36, 36, 36, 36, 36, 36, 36, 36, 36, 36, 36, 36, 36, 36, 36, 36, 36, 36, 36, 36, 36, 36, 36, 36, 36, 36, 36, 36, 36, 36, 36, 36, 36, 36, 36], [36, 36, 36, 36, 36, 36, 36, 36, 36, 36, 36, 36, 36, 36, 36, 36, 36, 36, 36, 36, 36, 36, 36, 36, 36, 36, 36, 36, 36, 36, 36, 36, 36, 36, 36, 36], [], [0, 0, 0, 0, 0, 0, 0, 0, 0, 0, 0, 0, 0, 0, 0, 0, 0, 0, 0, 0, 0, 0, 0, 0, 0, 0, 0, 0, 0, 0, 0, 0, 0, 0, 0, 0], [0, 0, 0, 0, 0, 0, 0, 0, 0, 0, 0, 0, 0, 0, 0, 0, 0, 0, 0, 0, 0, 0, 0, 0, 0, 0, 0, 0, 0, 0, 0, 0, 0, 0, 0, 0], [0, 0, 0, 0, 0, 0, 0, 0, 0, 0, 0, 0, 0, 0, 0, 0, 0, 0, 0, 0, 0, 0, 0, 0, 0, 0, 0, 0, 0, 0, 0, 0, 0, 0, 0, 0], [1, 1, 0, 0, 0, 0, 1, 1, 0, 0, 0, 0, 0, 0, 0, 0, 0, 0, 0, 0, 0, 0, 0, 0, 0, 0, 0, 0, 0, 0, 0, 0, 0, 0, 0, 0], [1, 2, 0, 0, 0, 0, 3, 4, 0, 0, 0, 0, 0, 0, 0, 0, 0, 0, 0, 0, 0, 0, 0, 0, 0, 0, 0, 0, 0, 0, 0, 0, 0, 0, 0, 0]].getD k []).getD i 0
def ta_5 (k i : Nat) : Nat := ([[], [1, 1, 0, 0, 0, 0, 1, 1, 0, 0, 0, 0, 0, 0, 5, 0, 0, 0, 0, 0, 0, 0, 0, 0, 0, 0, 0, 0, 0, 0, 0, 0, 0, 0, 0, 0], [1, 2, 0, 0, 0, 0, 3, 4, 0, 0, 0, 0, 0, 0, 0, 0, 0, 0, 0, 0, 0, 0, 0, 0, 0, 0, 0, 0, 0, 0, 0, 0, 0, 0, 0, 0], [0, 0, 0, 0, 0, 0, 0, 0, 0, 0, 0, 0, 0, 0, 7, 0, 0, 0, 0, 0, 0, 0, 0, 0, 0, 0, 0, 0, 0, 0, 0, 0, 0, 0, 0, 0], [0, 0, 0, 0, 0, 0, 0, 0, 0, 0, 0, 0, 0, 0, 0, 0, 0, 0, 0, 0, 0, 0, 0, 0, 0, 0, 0, 0, 0, 0, 0, 0, 0, 0, 0, 0], [36, 36, 36, 36, 36, 36, 36, 36, 36, 36, 36, 36, 36, 36, 14, 14, 36, 36, 36, 36, 14, 14, 36, 36, 36, 36, 36, 36, 36, 36, 36, 36, 36, 36, 36, 36], [36, 36, 36, 36, 36, 36, 36, 36, 36, 36, 36, 36, 36, 36, 0, 1, 36, 36, 36, 36, 6, 7, 36, 36, 36, 36, 36, 36, 36, 36, 36, 36, 36, 36, 36, 36], [], [0, 0, 0, 0, 0, 0, 0, 0, 0, 0, 0, 0, 0, 0, 0, 0, 0, 0, 0, 0, 0, 0, 0, 0, 0, 0, 0, 0, 0, 0, 0, 0, 0, 0, 0, 0], [0, 0, 0, 0, 0, 0, 0, 0, 0, 0, 0, 0, 0, 0, 1, 2, 0, 0, 0, 0, 64, 128, 0, 0, 0, 0, 0, 0, 0, 0, 0, 0, 0, 0, 0, 0], [0, 0, 0, 0, 0, 0, 0, 0, 0, 0, 0, 0, 0, 0, 1, 2, 0, 0, 0, 0, 64, 128, 0, 0, 0, 0, 0, 0, 0, 0, 0, 0, 0, 0, 0, 0], [1, 1, 0, 0, 0, 0, 1, 1, 0, 0, 0, 0, 0, 0, 1, 1, 0, 0, 0, 0, 1, 1, 0, 0, 0, 0, 0, 0, 0, 0, 0, 0, 0, 0, 0, 0], [1, 2, 0, 0, 0, 0, 3, 4, 0, 0, 0, 0, 0, 0, 1, 2, 0, 0, 0, 0, 3, 4, 0, 0, 0, 0, 0, 0, 0, 0, 0, 0, 0, 0, 0, 0]].getD k []).getD i 0
def ta_6 (k i : Nat) : Nat := ([[], [1, 1, 0, 0, 0, 0, 1, 1, 0, 0, 0, 0, 0, 0, 5, 0, 0, 0, 0, 0, 0, 0, 0, 0, 0, 0, 0, 0, 0, 0, 0, 0, 0, 0, 0, 3], [1, 2, 0, 0, 0, 0, 3, 4, 0, 0, 0, 0, 0, 0, 0, 0, 0, 0, 0, 0, 0, 0, 0, 0, 0, 0, 0, 0, 0, 0, 0, 0, 0, 0, 0, 14], [0, 0, 0, 0, 0, 0, 0, 0, 0, 0, 0, 0, 0, 0, 7, 0, 0, 0, 0, 0, 0, 0, 0, 0, 0, 0, 0, 0, 0, 0, 0, 0, 0, 0, 0, 21], [0, 0, 0, 0, 0, 0, 0, 0, 0, 0, 0, 0, 0, 0, 0, 0, 0, 0, 0, 0, 0, 0, 0, 0, 0, 0, 0, 0, 0, 0, 0, 0, 0, 0, 0, 0], [36, 36, 36, 36, 36, 36, 36, 36, 36, 36, 36, 36, 36, 36, 14, 14, 36, 36, 36, 36, 14, 14, 36, 36, 36, 36, 36, 36, 36, 36, 36, 36, 36, 36, 36, 36], [36, 36, 36, 36, 36, 36, 36, 36, 36, 36, 36, 36, 36, 36, 0, 1, 36, 36, 36, 36, 6, 7, 36, 36, 36, 36, 36, 36, 36, 36, 36, 36, 36, 36, 36, 36], [], [0, 0, 0, 0, 0, 0, 0, 0, 0, 0, 0, 0, 0, 0, 0, 0, 0, 0, 0, 0, 0, 0, 0, 0, 0, 0, 0, 0, 0, 0, 0, 0, 0, 0, 0, 0], [0, 0, 0, 0, 0, 0, 0, 0, 0, 0, 0, 0, 0, 0, 1, 2, 0, 0, 0, 0, 64, 128, 0, 0, 0, 0, 0, 0, 0, 0, 0, 0, 0, 0, 0, 3194880], [0, 0, 0, 0, 0, 0, 0, 0, 0, 0, 0, 0, 0, 0, 1, 2, 0, 0, 0, 0, 64, 128, 0, 0, 0, 0, 0, 0, 0, 0, 0, 0, 0, 0, 0, 3195075], [1, 1, 0, 0, 0, 0, 1, 1, 0, 0, 0, 0, 0, 0, 1, 1, 0, 0, 0, 0, 1, 1, 0, 0, 0, 0, 0, 0, 0, 0, 0, 0, 0, 0, 0, 1], [1, 2, 0, 0, 0, 0, 3, 4, 0, 0, 0, 0, 0, 0, 1, 2, 0, 0, 0, 0, 3, 4, 0, 0, 0, 0, 0, 0, 0, 0, 0, 0, 0, 0, 0, 6]].getD k []).getD i 0
def ta_7 (k i : Nat) : Nat := ([[], [1, 1, 0, 0, 0, 0, 1, 1, 0, 0, 0, 0, 0, 0, 5, 0, 0, 0, 0, 0, 0, 0, 0, 0, 0, 0, 0, 0, 0, 0, 0, 0, 0, 0, 4, 3], [1, 2, 0, 0, 0, 0, 3, 4, 0, 0, 0, 0, 0, 0, 0, 0, 0, 0, 0, 0, 0, 0, 0, 0, 0, 0, 0, 0, 0, 0, 0, 0, 0, 0, 14, 14], [0, 0, 0, 0, 0, 0, 0, 0, 0, 0, 0, 0, 0, 0, 7, 0, 0, 0, 0, 0, 0, 0, 0, 0, 0, 0, 0, 0, 0, 0, 0, 0, 0, 0, 15, 21], [0, 0, 0, 0, 0, 0, 0, 0, 0, 0, 0, 0, 0, 0, 0, 0, 0, 0, 0, 0, 0, 0, 0, 0, 0, 0, 0, 0, 0, 0, 0, 0, 0, 0, 20, 0], [36, 36, 36, 36, 36, 36, 36, 36, 36, 36, 36, 36, 36, 36, 14, 14, 36, 36, 36, 36, 14, 14, 36, 36, 36, 36, 36, 36, 36, 36, 36, 36, 36, 36, 36, 36], [36, 36, 36, 36, 36, 36, 36, 36, 36, 36, 36, 36, 36, 36, 0, 1, 36, 36, 36, 36, 6, 7, 36, 36, 36, 36, 36, 36, 36, 36, 36, 36, 36, 36, 36, 36], [], [0, 0, 0, 0, 0, 0, 0, 0, 0, 0, 0, 0, 0, 0, 0, 0, 0, 0, 0, 0, 0, 0, 0, 0, 0, 0, 0, 0, 0, 0, 0, 0, 0, 0, 0, 0], [0, 0, 0, 0, 0, 0, 0, 0, 0, 0, 0, 0, 0, 0, 1, 2, 0, 0, 0, 0, 64, 128, 0, 0, 0, 0, 0, 0, 0, 0, 0, 0, 0, 0, 1097728, 3194880], [0, 0, 0, 0, 0, 0, 0, 0, 0, 0, 0, 0, 0, 0, 1, 2, 0, 0, 0, 0, 64, 128, 0, 0, 0, 0, 0, 0, 0, 0, 0, 0, 0, 0, 1097795, 3195075], [1, 1, 0, 0, 0, 0, 1, 1, 0, 0, 0, 0, 0, 0, 1, 1, 0, 0, 0, 0, 1, 1, 0, 0, 0, 0, 0, 0, 0, 0, 0, 0, 0, 0, 1, 1], [1, 2, 0, 0, 0, 0, 3, 4, 0, 0, 0, 0, 0, 0, 1, 2, 0, 0, 0, 0, 3, 4, 0, 0, 0, 0, 0, 0, 0, 0, 0, 0, 0, 0, 7, 6]].getD k []).getD i 0
def ta_8 (k i : Nat) : Nat := ([[], [1, 1, 0, 0, 0, 0, 1, 1, 0, 0, 0, 0, 0, 0, 5, 0, 0, 0, 0, 0, 0, 1, 0, 0, 0, 0, 0, 0, 0, 0, 0, 0, 0, 0, 4, 3], [1, 2, 0, 0, 0, 0, 3, 4, 0, 0, 0, 0, 0, 0, 0, 0, 0, 0, 0, 0, 0, 5, 0, 0, 0, 0, 0, 0, 0, 0, 0, 0, 0, 0, 14, 14], [0, 0, 0, 0, 0, 0, 0, 0, 0, 0, 0, 0, 0, 0, 7, 0, 0, 0, 0, 0, 0, 0, 0, 0, 0, 0, 0, 0, 0, 0, 0, 0, 0, 0, 15, 21], [0, 0, 0, 0, 0, 0, 0, 0, 0, 0, 0, 0, 0, 0, 0, 0, 0, 0, 0, 0, 0, 0, 0, 0, 0, 0, 0, 0, 0, 0, 0, 0, 0, 0, 20, 0], [36, 36, 36, 36, 36, 36, 36, 36, 36, 36, 36, 36, 36, 36, 36, 36, 36, 36, 36, 36, 36, 36, 36, 36, 36, 36, 36, 36, 36, 36, 36, 36, 36, 36, 36, 36], [36, 36, 36, 36, 36, 36, 36, 36, 36, 36, 36, 36, 36, 36, 36, 36, 36, 36, 36, 36, 36, 36, 36, 36, 36, 36, 36, 36, 36, 36, 36, 36, 36, 36, 36, 36], [], [0, 0, 0, 0, 0, 0, 0, 0, 0, 0, 0, 0, 0, 0, 1, 0, 0, 0, 0, 0, 0, 0, 0, 0, 0, 0, 0, 0, 0, 0, 0, 0, 0, 0, 0, 0], [0, 0, 0, 0, 0, 0, 0, 0, 0, 0, 0, 0, 0, 0, 0, 0, 0, 0, 0, 0, 0, 0, 0, 0, 0, 0, 0, 0, 0, 0, 0, 0, 0, 0, 1097728, 3194880], [0, 0, 0, 0, 0, 0, 0, 0, 0, 0, 0, 0, 0, 0, 0, 0, 0, 0, 0, 0, 0, 0, 0, 0, 0, 0, 0, 0, 0, 0, 0, 0, 0, 0, 1097728, 3194880], [1, 1, 0, 0, 0, 0, 1, 1, 0, 0, 0, 0, 0, 0, 3, 0, 0, 0, 0, 0, 0, 1, 0, 0, 0, 0, 0, 0, 0, 0, 0, 0, 0, 0, 3, 3], [1, 2, 0, 0, 0, 0, 3, 4, 0, 0, 0, 0, 0, 0, 0, 0, 0, 0, 0, 0, 0, 5, 0, 0, 0, 0, 0, 0, 0, 0, 0, 0, 0, 0, 0, 0]].getD k []).getD i 0
def ta_9 (k i : Nat) : Nat := ([[], [1, 1, 0, 0, 0, 0, 1, 1, 0, 0, 0, 0, 0, 0, 5, 0, 0, 0, 0, 0, 0, 0, 0, 0, 0, 0, 0, 0, 0, 0, 0, 0, 0, 0, 4, 3], [1, 2, 0, 0, 0, 0, 3, 4, 0, 0, 0, 0, 0, 0, 0, 0, 0, 0, 0, 0, 0, 0, 0, 0, 0, 0, 0, 0, 0, 0, 0, 0, 0, 0, 14, 14], [0, 0, 0, 0, 0, 0, 0, 0, 0, 0, 0, 0, 0, 0, 7, 0, 0, 0, 0, 0, 0, 0, 0, 0, 0, 0, 0, 0, 0, 0, 0, 0, 0, 0, 15, 21], [0, 0, 0, 0, 0, 0, 0, 0, 0, 0, 0, 0, 0, 0, 0, 0, 0, 0, 0, 0, 0, 0, 0, 0, 0, 0, 0, 0, 0, 0, 0, 0, 0, 0, 20, 0], [36, 36, 36, 36, 36, 36, 36, 36, 36, 36, 36, 36, 36, 36, 14, 14, 36, 36, 36, 36, 14, 14, 36, 36, 36, 36, 36, 36, 36, 36, 36, 36, 36, 36, 36, 36], [36, 36, 36, 36, 36, 36, 36, 36, 36, 36, 36, 36, 36, 36, 0, 1, 36, 36, 36, 36, 6, 7, 36, 36, 36, 36, 36, 36, 36, 36, 36, 36, 36, 36, 36, 36], [], [0, 0, 0, 0, 0, 0, 0, 0, 0, 0, 0, 0, 0, 0, 0, 0, 0, 0, 0, 0, 0, 0, 0, 0, 0, 0, 0, 0, 0, 0, 0, 0, 0, 0, 0, 0], [0, 0, 0, 0, 0, 0, 0, 0, 0, 0, 0, 0, 0, 0, 1, 2, 0, 0, 0, 0, 64, 128, 0, 0, 0, 0, 0, 0, 0, 0, 0, 0, 0, 0, 1097728, 3194880], [0, 0, 0, 0, 0, 0, 0, 0, 0, 0, 0, 0, 0, 0, 1, 2, 0, 0, 0, 0, 64, 128, 0, 0, 0, 0, 0, 0, 0, 0, 0, 0, 0, 0, 1097795, 3195075], [1, 1, 0, 0, 0, 0, 1, 1, 0, 0, 0, 0, 0, 0, 1, 1, 0, 0, 0, 0, 1, 1, 0, 0, 0, 0, 0, 0, 0, 0, 0, 0, 0, 0, 1, 1], [1, 2, 0, 0, 0, 0, 3, 4, 0, 0, 0, 0, 0, 0, 1, 2, 0, 0, 0, 0, 3, 4, 0, 0, 0, 0, 0, 0, 0, 0, 0, 0, 0, 0, 7, 6]].getD k []).getD i 0
def ta_10 (k i : Nat) : Nat := ([[], [2, 1, 0, 0, 0, 0, 1, 1, 0, 0, 0, 0, 0, 0, 5, 0, 0, 0, 0, 0, 0, 0, 0, 0, 0, 0, 0, 0, 0, 0, 0, 0, 0, 0, 4, 3], [35, 2, 0, 0, 0, 0, 3, 4, 0, 0, 0, 0, 0, 0, 0, 0, 0, 0, 0, 0, 0, 0, 0, 0, 0, 0, 0, 0, 0, 0, 0, 0, 0, 0, 14, 14], [1, 0, 0, 0, 0, 0, 0, 0, 0, 0, 0, 0, 0, 0, 7, 0, 0, 0, 0, 0, 0, 0, 0, 0, 0, 0, 0, 0, 0, 0, 0, 0, 0, 0, 15, 21], [0, 0, 0, 0, 0, 0, 0, 0, 0, 0, 0, 0, 0, 0, 0, 0, 0, 0, 0, 0, 0, 0, 0, 0, 0, 0, 0, 0, 0, 0, 0, 0, 0, 0, 20, 0], [36, 36, 36, 36, 36, 36, 36, 36, 36, 36, 36, 36, 36, 36, 14, 14, 36, 36, 36, 36, 14, 14, 36, 36, 36, 36, 36, 36, 36, 36, 36, 36, 36, 36, 36, 36], [36, 36, 36, 36, 36, 36, 36, 36, 36, 36, 36, 36, 36, 36, 0, 1, 36, 36, 36, 36, 6, 7, 36, 36, 36, 36, 36, 36, 36, 36, 36, 36, 36, 36, 36, 36], [], [0, 0, 0, 0, 0, 0, 0, 0, 0, 0, 0, 0, 0, 0, 0, 0, 0, 0, 0, 0, 0, 0, 0, 0, 0, 0, 0, 0, 0, 0, 0, 0, 0, 0, 0, 0], [34359738370, 0, 0, 0, 0, 0, 0, 0, 0, 0, 0, 0, 0, 0, 1, 2, 0, 0, 0, 0, 64, 128, 0, 0, 0, 0, 0, 0, 0, 0, 0, 0, 0, 0, 1097728, 3194880], [34362933443, 0, 0, 0, 0, 0, 0, 0, 0, 0, 0, 0, 0, 0, 34362933443, 2, 0, 0, 0, 0, 64, 128, 0, 0, 0, 0, 0, 0, 0, 0, 0, 0, 0, 0, 34362933443, 34362933443], [2, 1, 0, 0, 0, 0, 1, 1, 0, 0, 0, 0, 0, 0, 2, 1, 0, 0, 0, 0, 1, 1, 0, 0, 0, 0, 0, 0, 0, 0, 0, 0, 0, 0, 2, 2], [0, 2, 0, 0, 0, 0, 3, 4, 0, 0, 0, 0, 0, 0, 0, 2, 0, 0, 0, 0, 3, 4, 0, 0, 0, 0, 0, 0, 0, 0, 0, 0, 0, 0, 0, 0]].getD k []).getD i 0
def ta_E (i : Nat) : Nat := [1, 1, 1, 1, 1, 1, 1, 1, 1, 1, 1, 1, 1, 1, 2, 2, 1, 1, 1, 1, 2, 2, 1, 1, 1, 1, 1, 1, 1, 1, 1, 1, 1, 1, 1, 3].getD i 0
def ta_c1 (i : Nat) : Nat := [0, 0, 0, 0, 0, 0, 0, 0, 0, 0, 0, 0, 0, 0, 0, 1, 1, 1, 1, 1, 1, 1, 1, 1, 1, 1, 1, 1, 1, 1, 1, 1, 1, 1, 1, 1, 1].getD i 0
def ta_c2 (i : Nat) : Nat := [0, 0, 0, 0, 0, 0, 0, 0, 0, 0, 0, 0, 0, 0, 0, 0, 0, 0, 0, 0, 0, 0, 0, 0, 0, 0, 0, 0, 0, 0, 0, 0, 0, 0, 0, 0, 0].getD i 0
theorem ta_s1 : sq_step ta_0 ta_1 0 1 1 0 0 :=
  sq_do (F := 1) (f1 := 1) (f2 := 1) (f3 := 1) (cc := 0) (g := 0) (w := 1) (by decide +kernel)
    ⟨(by decide +kernel), (by decide +kernel), (by decide +kernel), (by decide +kernel), (by decide +kernel), (by decide +kernel), (by decide +kernel), (by decide +kernel), (by decide +kernel), (by decide +kernel), (by decide +kernel), (by decide +kernel), (by decide +kernel), sq_Rm (by decide +kernel) (by decide +kernel) (by decide +kernel) (by decide +kernel) (by decide +kernel) (by decide +kernel), (by decide +kernel)⟩ (by decide +kernel)
theorem ta_s2 : sq_step ta_1 ta_2 1 1 2 0 0 :=
  sq_do (F := 3) (f1 := 2) (f2 := 2) (f3 := 2) (cc := 0) (g := 0) (w := 2) (by decide +kernel)
    ⟨(by decide +kernel), (by decide +kernel), (by decide +kernel), (by decide +kernel), (by decide +kernel), (by decide +kernel), (by decide +kernel), (by decide +kernel), (by decide +kernel), (by decide +kernel), (by decide +kernel), (by decide +kernel), (by decide +kernel), sq_Rm (by decide +kernel) (by decide +kernel) (by decide +kernel) (by decide +kernel) (by decide +kernel) (by decide +kernel), (by decide +kernel)⟩ (by decide +kernel)
theorem ta_s3 : sq_step ta_2 ta_3 6 1 3 0 0 :=
  sq_do (F := 67) (f1 := 64) (f2 := 64) (f3 := 64) (cc := 0) (g := 0) (w := 64) (by decide +kernel)
    ⟨(by decide +kernel), (by decide +kernel), (by decide +kernel), (by decide +kernel), (by decide +kernel), (by decide +kernel), (by decide +kernel), (by decide +kernel), (by decide +kernel), (by decide +kernel), (by decide +kernel), (by decide +kernel), (by decide +kernel), sq_Rm (by decide +kernel) (by decide +kernel) (by decide +kernel) (by decide +kernel) (by decide +kernel) (by decide +kernel), (by decide +kernel)⟩ (by decide +kernel)
theorem ta_s4 : sq_step ta_3 ta_4 7 1 4 0 0 :=
  sq_do (F := 195) (f1 := 128) (f2 := 128) (f3 := 128) (cc := 0) (g := 0) (w := 128) (by decide +kernel)
    ⟨(by decide +kernel), (by decide +kernel), (by decide +kernel), (by decide +kernel), (by decide +kernel), (by decide +kernel), (by decide +kernel), (by decide +kernel), (by decide +kernel), (by decide +kernel), (by decide +kernel), (by decide +kernel), (by decide +kernel), sq_Rm (by decide +kernel) (by decide +kernel) (by decide +kernel) (by decide +kernel) (by decide +kernel) (by decide +kernel), (by decide +kernel)⟩ (by decide +kernel)
theorem ta_s5 : sq_step ta_4 ta_5 14 5 0 7 0 :=
  sq_do (F := 16579) (f1 := 3194880) (f2 := 3194880) (f3 := 3194880) (cc := 0) (g := 0) (w := 3194880) (by decide +kernel)
    ⟨(by decide +kernel), (by decide +kernel), (by decide +kernel), (by decide +kernel), (by decide +kernel), (by decide +kernel), (by decide +kernel), (by decide +kernel), (by decide +kernel), (by decide +kernel), (by decide +kernel), (by decide +kernel), (by decide +kernel), sq_Rm (by decide +kernel) (by decide +kernel) (by decide +kernel) (by decide +kernel) (by decide +kernel) (by decide +kernel), (by decide +kernel)⟩ (by decide +kernel)
theorem ta_s6 : sq_step ta_5 ta_6 35 3 14 21 0 :=
  sq_do (F := 34359754947) (f1 := 34359738368) (f2 := 34359738368) (f3 := 34359738368) (cc := 0) (g := 0) (w := 34359738368) (by decide +kernel)
    ⟨(by decide +kernel), (by decide +kernel), (by decide +kernel), (by decide +kernel), (by decide +kernel), (by decide +kernel), (by decide +kernel), (by decide +kernel), (by decide +kernel), (by decide +kernel), (by decide +kernel), (by decide +kernel), (by decide +kernel), sq_Rm (by decide +kernel) (by decide +kernel) (by decide +kernel) (by decide +kernel) (by decide +kernel) (by decide +kernel), (by decide +kernel)⟩ (by decide +kernel)
theorem ta_s7 : sq_step ta_6 ta_7 34 4 14 15 20 :=
  sq_do (F := 51539624131) (f1 := 17179869184) (f2 := 17179869184) (f3 := 17179869184) (cc := 0) (g := 0) (w := 17179869184) (by decide +kernel)
    ⟨(by decide +kernel), (by decide +kernel), (by decide +kernel), (by decide +kernel), (by decide +kernel), (by decide +kernel), (by decide +kernel), (by decide +kernel), (by decide +kernel), (by decide +kernel), (by decide +kernel), (by decide +kernel), (by decide +kernel), sq_Rm (by decide +kernel) (by decide +kernel) (by decide +kernel) (by decide +kernel) (by decide +kernel) (by decide +kernel), (by decide +kernel)⟩ (by decide +kernel)
theorem ta_s8 : sq_step ta_7 ta_8 21 1 5 0 0 :=
  sq_do (F := 51541721283) (f1 := 3194880) (f2 := 3194880) (f3 := 51542802432) (cc := 0) (g := 16384) (w := 2097152) (by decide +kernel)
    ⟨(by decide +kernel), (by decide +kernel), (by decide +kernel), (by decide +kernel), (by decide +kernel), (by decide +kernel), (by decide +kernel), (by decide +kernel), (by decide +kernel), (by decide +kernel), (by decide +kernel), (by decide +kernel), (by decide +kernel), sq_Rm (by decide +kernel) (by decide +kernel) (by decide +kernel) (by decide +kernel) (by decide +kernel) (by decide +kernel), (by decide +kernel)⟩ (by decide +kernel)
theorem ta_s9 : sq_step ta_8 ta_9 21 0 0 0 0 :=
  sq_do (F := 51539624131) (f1 := 3194880) (f2 := 3194880) (f3 := 51542802432) (cc := 0) (g := 0) (w := 51542802432) (by decide +kernel)
    ⟨(by decide +kernel), (by decide +kernel), (by decide +kernel), (by decide +kernel), (by decide +kernel), (by decide +kernel), (by decide +kernel), (by decide +kernel), (by decide +kernel), (by decide +kernel), (by decide +kernel), (by decide +kernel), (by decide +kernel), sq_Rm (by decide +kernel) (by decide +kernel) (by decide +kernel) (by decide +kernel) (by decide +kernel) (by decide +kernel), (by decide +kernel)⟩ (by decide +kernel)
theorem ta_s10 : sq_step ta_9 ta_10 0 2 35 1 0 :=
  sq_do (F := 51539624131) (f1 := 1) (f2 := 1) (f3 := 51539623937) (cc := 34359754753) (g := 0) (w := 0) (by decide +kernel)
    ⟨(by decide +kernel), (by decide +kernel), (by decide +kernel), (by decide +kernel), (by decide +kernel), (by decide +kernel), (by decide +kernel), (by decide +kernel), (by decide +kernel), (by decide +kernel), (by decide +kernel), (by decide +kernel), (by decide +kernel), sq_Rm (by decide +kernel) (by decide +kernel) (by decide +kernel) (by decide +kernel) (by decide +kernel) (by decide +kernel), (by decide +kernel)⟩ (by decide +kernel)
end
section
/-! the law -/
def sq_r (a b c d x : Int32) (k : Nat) : Int32 := [0, a, b, c, d, x, (((0 + a) + b) + c) + d, if a ≤ 0 then c else b].getD k 0
theorem sq_rE (a b c d x : Int32) : sq_E (sq_r a b c d x) := ⟨rfl, rfl, fun h => (show (if a ≤ 0 then c else b) = c from if_pos h), fun h => (show (if a ≤ 0 then c else b) = b from if_neg h)⟩
theorem sq_r6 (a b c d x : Int32) : sq_r a b c d x 6 = ((a + b) + c) + d := by
  show (((0 + a) + b) + c) + d = _
  rw [Int32.zero_add]
theorem sq_nb0 : ∀ j, j < 1024 → ¬ nI j - 500 < -1000 ∧ nI j - 500 ≤ 1000 := by decide +kernel
theorem sq_nb {p x : Int32} (h : x = (p &&& 1023) - 500) : ¬ x < -1000 ∧ x ≤ 1000 := by
  obtain ⟨j, hj, e⟩ := pk_andE p 10 (m := 1023) (by decide)
  rw [h, e]
  exact sq_nb0 j hj
theorem sq_367 {post : Int32 → St0 → Prop} {mc ms : Nat} {x6 x7 x8 x9 x10 z0 z1 : Int32} {kc ks : Nat} {f : Int64} {a1 a2 a3 a4 a5 a6 a7 a8 : Nat → Int32} {a9 a10 : Nat → Int64} {a11 a12 a13 : Nat → Int32} (hz : z1 = z0) (hM : sq_M (sq_r x6 x7 x8 x9 x10) ta_7 (f, a1, a2, a3, a4, a5, a6, a7, a8, a9, a10, a11, a12, a13)) (hn : ¬ x10 < -1000 ∧ x10 ≤ 1000) (H : post 1 ()) : wL_lawOf_367 post mc ms x6 x7 x8 x9 x10 z0 z1 kc ks f a1 a2 a3 a4 a5 a6 a7 a8 a9 a10 a11 a12 a13 := by
  have hr := sq_rE x6 x7 x8 x9 x10
  unfold wL_lawOf_367
  refine br_t hz (sq_number 21 5 (by decide) rfl ta_s8 hr hM rfl hn.1 hn.2 (fun v hv => ?_))
  obtain ⟨f, a1, a2, a3, a4, a5, a6, a7, a8, a9, a10, a11, a12, a13⟩ := v
  refine sq_state 14 (by decide) rfl hv ?_
  refine sq_state 35 (by decide) rfl hv ?_
  refine sq_value 35 (by decide) rfl hv ?_
  refine sq_value 21 (by decide) rfl hv ?_
  refine sq_owner 15 (by decide) rfl hv ?_
  rw [show ta_8 12 35 = 0 by decide +kernel, show ta_8 12 21 = 5 by decide +kernel]
  refine br_t (by decide +kernel) (br_t (by decide +kernel) (br_t rfl (br_t rfl (br_t (by decide +kernel) ?_))))
  refine sq_erase ta_s9 hr hv (by decide +kernel) (fun v hv => ?_)
  obtain ⟨f, a1, a2, a3, a4, a5, a6, a7, a8, a9, a10, a11, a12, a13⟩ := v
  refine sq_value 35 (by decide) rfl hv ?_
  rw [show ta_9 12 35 = 6 by decide +kernel]
  refine br_t rfl (br_t (sq_r6 _ _ _ _ _) ?_)
  refine sq_pair ta_s10 hr hv (fun v hv => ?_)
  obtain ⟨f, a1, a2, a3, a4, a5, a6, a7, a8, a9, a10, a11, a12, a13⟩ := v
  refine sq_state 35 (by decide) rfl hv ?_
  refine sq_inState hv (by decide +kernel) ?_
  refine sq_state 15 (by decide) rfl hv ?_
  refine sq_depth2 14 (by decide) rfl hv (by decide +kernel) ?_
  exact br_t (by decide +kernel) (br_t (by decide +kernel) (br_t (by decide +kernel) (br_t rfl H)))
theorem sq_193 {post : Int32 → St0 → Prop} {mc ms : Nat} {x6 x7 x8 x9 x10 x14 x15 z0 : Int32} {kc ks : Nat} {f : Int64} {a1 a2 a3 a4 a5 a6 a7 a8 : Nat → Int32} {a9 a10 : Nat → Int64} {a11 a12 a13 : Nat → Int32} (c v : Nat) (hc : c < 36) (e14 : x14 = nI c) (e15 : x15 = nI v) (hv : v < 36) (hz : sq_r x6 x7 x8 x9 x10 (ta_5 12 c) = z0) (t6 : ta_5 6 c = v) (t5 : ta_5 5 c = 14) (t10 : ta_5 10 c = 2 ^ v) (hM : sq_M (sq_r x6 x7 x8 x9 x10) ta_5 (f, a1, a2, a3, a4, a5, a6, a7, a8, a9, a10, a11, a12, a13)) (hn : ¬ x10 < -1000 ∧ x10 ≤ 1000) (H : post 1 ()) : wL_lawOf_193 post mc ms x6 x7 x8 x9 x10 x14 x15 z0 kc ks f a1 a2 a3 a4 a5 a6 a7 a8 a9 a10 a11 a12 a13 := by
  have hr := sq_rE x6 x7 x8 x9 x10
  unfold wL_lawOf_193
  refine sq_value c hc e14 hM ?_
  refine sq_shows c hc e14 hM ?_
  refine sq_owner c hc e14 hM ?_
  refine sq_sources c hc e14 hM ?_
  rw [t6, t5, t10, e15, sq_1 v hv]
  refine br_t hz (br_t (sq_s_lt (by omega)) (br_t rfl (br_t rfl ?_)))
  refine sq_sum ta_s6 hr hM (fun w hw => ?_)
  obtain ⟨f, a1, a2, a3, a4, a5, a6, a7, a8, a9, a10, a11, a12, a13⟩ := w
  refine sq_value 35 (by decide) rfl hw ?_
  refine sq_depth 35 3 ta_E ta_c1 ta_c2 (by decide) rfl hw (by decide +kernel) (by decide +kernel) (by decide +kernel) (by decide +kernel) (by decide +kernel) (by decide +kernel) (by decide +kernel) (fun w hw => ?_)
  obtain ⟨f, a1, a2, a3, a4, a5, a6, a7, a8, a9, a10, a11, a12, a13⟩ := w
  rw [show ta_6 12 35 = 6 by decide +kernel]
  refine br_t rfl (br_t (sq_r6 _ _ _ _ _) (br_t rfl ?_))
  refine sq_choice ta_s7 hr hw (fun w hw => ?_)
  obtain ⟨f, a1, a2, a3, a4, a5, a6, a7, a8, a9, a10, a11, a12, a13⟩ := w
  refine sq_value 34 (by decide) rfl hw ?_
  rw [show ta_7 12 34 = 7 by decide +kernel]
  exact br_t rfl (br_c (fun z => sq_367 (hr.2.2.1 z) hw hn H) (fun z => sq_367 (hr.2.2.2 z) hw hn H))
theorem sq_law {post : Int32 → St0 → Prop} {p0 p1 p2 p3 p4 p5 : Int32} (H : post 1 ()) : wpL_lawOf post 14 482 () p0 p1 p2 p3 p4 p5 := by
  unfold wpL_lawOf
  intro x6 e6 x7 e7 x8 e8 x9 e9 x10 e10
  have hr := sq_rE x6 x7 x8 x9 x10
  have n6 := sq_nb e6
  have n7 := sq_nb e7
  have n8 := sq_nb e8
  have n9 := sq_nb e9
  have n10 := sq_nb e10
  refine ⟨by decide, by decide, 13, 468, by decide, by decide, ?_⟩
  refine sq_init (r := sq_r x6 x7 x8 x9 x10) (T := ta_0) rfl (by decide +kernel) (fun w hw => ?_)
  obtain ⟨f, a1, a2, a3, a4, a5, a6, a7, a8, a9, a10, a11, a12, a13⟩ := w
  refine sq_number 0 1 (by decide) rfl ta_s1 hr hw rfl n6.1 n6.2 (fun w hw => ?_)
  obtain ⟨f, a1, a2, a3, a4, a5, a6, a7, a8, a9, a10, a11, a12, a13⟩ := w
  refine sq_number 1 2 (by decide) rfl ta_s2 hr hw rfl n7.1 n7.2 (fun w hw => ?_)
  obtain ⟨f, a1, a2, a3, a4, a5, a6, a7, a8, a9, a10, a11, a12, a13⟩ := w
  refine sq_number 6 3 (by decide) rfl ta_s3 hr hw rfl n8.1 n8.2 (fun w hw => ?_)
  obtain ⟨f, a1, a2, a3, a4, a5, a6, a7, a8, a9, a10, a11, a12, a13⟩ := w
  refine sq_number 7 4 (by decide) rfl ta_s4 hr hw rfl n9.1 n9.2 (fun w hw => ?_)
  obtain ⟨f, a1, a2, a3, a4, a5, a6, a7, a8, a9, a10, a11, a12, a13⟩ := w
  refine sq_spread ta_s5 hr hw (by decide +kernel) (fun w hw => ?_)
  obtain ⟨f, a1, a2, a3, a4, a5, a6, a7, a8, a9, a10, a11, a12, a13⟩ := w
  refine br_t rfl ?_
  obtain ⟨j, hj, ej⟩ := pk_andE p5 2 (m := 3) (by decide)
  rw [ej]
  have hj4 : j = 0 ∨ j = 1 ∨ j = 2 ∨ j = 3 := by omega
  rcases hj4 with e | e | e | e
  · subst e
    refine nm_e (nm_r (e' := nI 14) (by decide +kernel) (nm_r (e' := nI 0) (by decide +kernel) (br_t rfl ?_)))
    exact sq_193 14 0 (by decide) rfl rfl (by decide) (by rw [show ta_5 12 14 = 1 by decide +kernel]; rfl) (by decide +kernel) (by decide +kernel) (by decide +kernel) hw n10 H
  · subst e
    refine nm_e (nm_r (e' := nI 15) (by decide +kernel) (nm_r (e' := nI 1) (by decide +kernel) (br_f (by decide) (br_t rfl ?_))))
    exact sq_193 15 1 (by decide) rfl rfl (by decide) (by rw [show ta_5 12 15 = 2 by decide +kernel]; rfl) (by decide +kernel) (by decide +kernel) (by decide +kernel) hw n10 H
  · subst e
    refine nm_e (nm_r (e' := nI 20) (by decide +kernel) (nm_r (e' := nI 6) (by decide +kernel) (br_f (by decide) (br_f (by decide) (br_t rfl ?_)))))
    exact sq_193 20 6 (by decide) rfl rfl (by decide) (by rw [show ta_5 12 20 = 3 by decide +kernel]; rfl) (by decide +kernel) (by decide +kernel) (by decide +kernel) hw n10 H
  · subst e
    refine nm_e (nm_r (e' := nI 21) (by decide +kernel) (nm_r (e' := nI 7) (by decide +kernel) (br_f (by decide) (br_f (by decide) (br_f (by decide) ?_)))))
    exact sq_193 21 7 (by decide) rfl rfl (by decide) (by rw [show ta_5 12 21 = 4 by decide +kernel]; rfl) (by decide +kernel) (by decide +kernel) (by decide +kernel) hw n10 H
theorem sq_at {post : Int32 → Prop} {L : Nat} {xs : Nat → Int32} (hL : L ≤ 6) (k : Nat) (hk : k < 2 ^ 31) (H : ∀ x : Int32, post x) : wpL_cellAt post L xs () (nI k) :=
  pk_le L k (fun _ => H 0) (fun z => ⟨vp_in_nI z (by omega), H _⟩)
theorem i_vc (xs : Nat → Int32) (L : Nat) (hL : L ≤ 6) : wpL_law (fun r => r = 1) L xs := by
  unfold wpL_law
  refine sq_at hL 0 (by decide) (fun r1 => ?_)
  refine sq_at hL 1 (by decide) (fun r2 => ?_)
  refine sq_at hL 2 (by decide) (fun r3 => ?_)
  refine sq_at hL 3 (by decide) (fun r4 => ?_)
  refine sq_at hL 4 (by decide) (fun r5 => ?_)
  refine sq_at hL 5 (by decide) (fun r6 => ?_)
  exact ⟨14, 482, by decide, by decide, sq_law rfl⟩
end
