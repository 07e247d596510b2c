section
/-! plain rows: the bit of a cell, sixths and thirty-sixths, what a cell's content may be -/
/-- the word that holds one cell alone -/
abbrev sp_b (c : Nat) : Int64 := (1 : Int64) <<< ((nI c).toInt64 &&& 63)
theorem sp_bit : ∀ c, c < 36 → ∀ k, k < 36 → (((((sp_b c).toUInt64 >>> ((nI k).toInt64.toUInt64 &&& Int64.toUInt64 63)).toInt64) &&& 1) = 1 ↔ k = c) := by decide +kernel
theorem sp_bit0 : ∀ k, k < 36 → ¬ ((((0 : Int64).toUInt64 >>> ((nI k).toInt64.toUInt64 &&& Int64.toUInt64 63)).toInt64) &&& 1) = 1 := by decide +kernel
theorem sp_bx : ∀ c, c < 36 → sp_b c &&& (sp_b c ^^^ (-1)) = 0 := by decide +kernel
theorem sp_bn : ∀ c, c < 36 → ¬ sp_b c = 0 := by decide +kernel
theorem sp_bf : ∀ c, c < 36 → ¬ ((0 ||| sp_b c) &&& sp_b c) = 0 := by decide +kernel
theorem sp_b0 : ∀ c, c < 36 → 0 ||| sp_b c = sp_b c := by decide +kernel
theorem sp_bb : ∀ c, c < 36 → sp_b c ||| sp_b c = sp_b c := by decide +kernel
theorem sp_za (x : Int64) : 0 &&& x = 0 := Int64.zero_and
theorem sp_az (x : Int64) : x &&& 0 = 0 := Int64.and_zero
theorem sp_6 : ¬ (6 : Int32) = 0 := by decide
theorem sp_36 : ¬ (36 : Int32) = 0 := by decide
theorem sp_d6 {p : Nat} (h : p < 36) : nI p / 6 = nI (p / 6) := pk_div (d := 6) (by omega) (by omega) (by omega)
theorem sp_r6 {p : Nat} (h : p < 36) : nI p - nI p / 6 * 6 = nI (p % 6) := pk_rem (d := 6) (by omega) (by omega) (by omega)
theorem sp_d36 {p : Nat} (h : p < 2 ^ 31) : nI p / 36 = nI (p / 36) := pk_div (d := 36) (by omega) (by omega) (by omega)
theorem sp_r36 {p : Nat} (h : p < 2 ^ 31) : nI p - nI p / 36 * 36 = nI (p % 36) := pk_rem (d := 36) (by omega) (by omega) (by omega)
theorem sp_ix (r i : Nat) : 6 * nI r + nI i = nI (6 * r + i) := by
  rw [show (6 : Int32) = nI 6 from rfl, pk_mul, nI_add]
/-- two corners of a rectangle -/
def sp_rc (p q : Nat) : Prop := p < 36 ∧ q < 36 ∧ p / 6 ≤ q / 6 ∧ p % 6 ≤ q % 6
/-- the contents that this law writes: a number, nothing, a sum over a rectangle -/
def sp_o1 (k a b : Int32) : Prop := k = 1 ∨ (k = 0 ∧ a = nI 0 ∧ b = nI 0) ∨ (k = 3 ∧ ∃ p q : Nat, sp_rc p q ∧ a = nI p ∧ b = nI q)
def sp_ok (a1 a2 a3 : Nat → Int32) : Prop := ∀ k, k < 36 → sp_o1 (a1 k) (a2 k) (a3 k)
/-- everywhere the same -/
def sp_all (a : Nat → Int32) (x : Int32) : Prop := ∀ k, k < 36 → a k = x
def sp_allL (a : Nat → Int64) : Prop := ∀ k, k < 36 → a k = 0
/-- one cell apart, zero -/
def sp_one (a : Nat → Int32) (c : Nat) (v : Int32) : Prop := ∀ k, k < 36 → a k = if k = c then v else 0
theorem sp_o5 {k a b : Int32} (h : sp_o1 k a b) : ¬ k = 5 ∧ ¬ k = 2 ∧ ¬ k = 4 ∧ ¬ k = 6 := by
  rcases h with h | ⟨h, _⟩ | ⟨h, _⟩ <;> rw [h] <;> decide
theorem sp_one0 {a : Nat → Int32} {c : Nat} (h : sp_all a 0) : sp_one a c 0 := by
  intro k hk
  rw [h k hk, ite_self]
theorem sp_upc {a : Nat → Int32} {c i : Nat} {x : Int32} (h : ∀ k, k < 36 → k ≠ i → a k = if k = c then x else 0) {y : Int32} (hy : y = if i = c then x else 0) : sp_one (upd a i y) c x := by
  intro k hk
  by_cases e : k = i
  · rw [e, pk_us, hy]
  · rw [pk_un e]
    exact h k hk e
/-- a rectangle's number -/
def sp_bm (x : Int32) (m : Nat) : Prop := m < 1296 ∧ x = nI m ∧ sp_rc (m / 36) (m % 36)
theorem sp_bmc {m : Nat} (hm : m < 1296) (h1 : m / 36 / 6 ≤ m % 36 / 6) (h2 : m / 36 % 6 ≤ m % 36 % 6) : sp_bm (nI m) m := ⟨hm, rfl, by omega, by omega, h1, h2⟩
theorem sp_bmj {m j : Nat} (hj : j < 2 ^ 31) (h : sp_bm (nI j) m) : j = m := (nI_eq hj (by have := h.1; omega)).mp h.2.1
theorem sp_35 {x : Int32} (h : 36 ≤ x) : 35 < x := by
  rw [Int32.lt_iff_toInt_lt]
  rw [Int32.le_iff_toInt_le] at h
  have e1 : (36 : Int32).toInt = 36 := by decide
  have e2 : (35 : Int32).toInt = 35 := by decide
  omega
/-- where an int lies, seen from the rectangles -/
theorem sp_ri (x : Int32) : x < 0 ∨ (∃ j : Nat, 1296 ≤ j ∧ j < 2 ^ 31 ∧ x = nI j) ∨ (∃ m : Nat, m < 1296 ∧ x = nI m) := by
  by_cases h : x < 0
  · exact Or.inl h
  · obtain ⟨j, hj, e⟩ := nI_of h
    by_cases g : 1296 ≤ j
    · exact Or.inr (Or.inl ⟨j, g, hj, e⟩)
    · exact Or.inr (Or.inr ⟨j, by omega, e⟩)
end
section
section
variable {f : Int64} {a1 a2 a3 a4 a5 a6 a7 a8 : Nat → Int32} {a9 a10 : Nat → Int64} {a11 a12 a13 : Nat → Int32}
/-! rectangleSet ends -/
theorem sp_rs23 {post : Int64 → Prop} {J : Int64 → Int32 → Prop} {p q r : Nat} {x : Int64} (hc : sp_rc p q) (H : ∀ y, J y (nI (r + 1))) : ∃ n, wX_rectangleSet_23 post J (nI p) (nI q) (nI r) n x (nI (p % 6)) :=
  have hq := hc.2.1
  have h6 := hc.2.2.2
  pk_loop (fun n i s => wX_rectangleSet_23 post J (nI p) (nI q) (nI r) n s (nI i)) (fun _ _ => True) (q % 6 + 1) (p % 6) x (by omega) trivial
    (fun n s _ => ⟨sp_6, pk_lt (q % 6) (q % 6 + 1) (fun _ => nm_r (nI_1 r) (H s)) (fun z => absurd z (by omega)) (sp_r6 hq)⟩)
    (fun n i s hi _ hw => ⟨sp_6, pk_lt (q % 6) i (fun z => absurd z (by omega)) (fun _ => nm_e (nm_r (nI_1 i) (hw _ trivial))) (sp_r6 hq)⟩)
theorem sp_rs {post : Int64 → Prop} {p q : Nat} (hc : sp_rc p q) (H : ∀ y, post y) : wpX_rectangleSet post () (nI p) (nI q) :=
  have hp := hc.1
  have hq := hc.2.1
  have hr := hc.2.2.1
  ⟨sp_6, nm_r (sp_d6 hp) (pk_loop (fun n i s => wX_rectangleSet_8 post (nI p) (nI q) n s (nI i)) (fun _ _ => True) (q / 6 + 1) (p / 6) 0 (by omega) trivial
    (fun n s _ => ⟨sp_6, pk_lt (q / 6) (q / 6 + 1) (fun _ => H s) (fun z => absurd z (by omega)) (sp_d6 hq)⟩)
    (fun n i s hi _ hw => ⟨sp_6, pk_lt (q / 6) i (fun z => absurd z (by omega)) (fun _ => ⟨sp_6, nm_r (sp_r6 hp) (sp_rs23 hc (fun y => hw y trivial))⟩) (sp_d6 hq)⟩))⟩
/-! totalOf, against any invariant by row and column -/
theorem sp_to23 {post : Int32 → Prop} {J : Int32 → Int32 → Prop} {p q r : Nat} {x : Int32} (I : Nat → Int32 → Prop) (hc : sp_rc p q) (hr : r ≤ q / 6) (h0 : I (p % 6) x)
    (h1 : ∀ c s, p % 6 ≤ c → c ≤ q % 6 → I c s → I (c + 1) (s + a12 (6 * r + c))) (H : ∀ s, I (q % 6 + 1) s → J s (nI (r + 1))) :
    ∃ n, wX_totalOf_23 post J (nI p) (nI q) (nI r) f a1 a2 a3 a4 a5 a6 a7 a8 a9 a10 a11 a12 a13 n x (nI (p % 6)) :=
  have hq := hc.2.1
  have h6 := hc.2.2.2
  pk_loop (fun n i s => wX_totalOf_23 post J (nI p) (nI q) (nI r) f a1 a2 a3 a4 a5 a6 a7 a8 a9 a10 a11 a12 a13 n s (nI i)) (fun i s => p % 6 ≤ i ∧ I i s) (q % 6 + 1) (p % 6) x (by omega) ⟨Nat.le_refl _, h0⟩
    (fun n s h => ⟨sp_6, pk_lt (q % 6) (q % 6 + 1) (fun _ => nm_r (nI_1 r) (H s h.2)) (fun z => absurd z (by omega)) (sp_r6 hq)⟩)
    (fun n i s hi h hw => ⟨sp_6, pk_lt (q % 6) i (fun z => absurd z (by omega)) (fun _ => ⟨pk_in (6 * r + i) 36 (by omega) (sp_ix r i), nm_r (e' := s + a12 (6 * r + i)) (by rw [pk_cl (6 * r + i) (sp_ix r i)]) (nm_r (nI_1 i) (hw _ ⟨Nat.le_succ_of_le h.1, h1 i s h.1 (by omega) h.2⟩))⟩) (sp_r6 hq)⟩)
theorem sp_to {post : Int32 → Prop} {p q : Nat} (I : Nat → Nat → Int32 → Prop) (hc : sp_rc p q) (h0 : I (p / 6) (p % 6) 0)
    (h1 : ∀ r c s, p / 6 ≤ r → r ≤ q / 6 → p % 6 ≤ c → c ≤ q % 6 → I r c s → I r (c + 1) (s + a12 (6 * r + c)))
    (h2 : ∀ r s, p / 6 ≤ r → r ≤ q / 6 → I r (q % 6 + 1) s → I (r + 1) (p % 6) s) (H : ∀ s, I (q / 6 + 1) (p % 6) s → post s) :
    wpX_totalOf post (f, a1, a2, a3, a4, a5, a6, a7, a8, a9, a10, a11, a12, a13) (nI p) (nI q) :=
  have hp := hc.1
  have hq := hc.2.1
  have hr := hc.2.2.1
  ⟨sp_6, nm_r (sp_d6 hp) (pk_loop (fun n i s => wX_totalOf_8 post (nI p) (nI q) f a1 a2 a3 a4 a5 a6 a7 a8 a9 a10 a11 a12 a13 n s (nI i)) (fun i s => p / 6 ≤ i ∧ I i (p % 6) s) (q / 6 + 1) (p / 6) 0 (by omega) ⟨Nat.le_refl _, h0⟩
    (fun n s h => ⟨sp_6, pk_lt (q / 6) (q / 6 + 1) (fun _ => H s h.2) (fun z => absurd z (by omega)) (sp_d6 hq)⟩)
    (fun n i s hi h hw => ⟨sp_6, pk_lt (q / 6) i (fun z => absurd z (by omega)) (fun z => ⟨sp_6, nm_r (sp_r6 hp) (sp_to23 (I i) hc z h.2 (fun c s => h1 i c s h.1 z) (fun s hs => hw s ⟨Nat.le_succ_of_le h.1, h2 i s h.1 z hs⟩))⟩) (sp_d6 hq)⟩))⟩
/-- the cell lies in the rectangle -/
def sp_hit (p q d : Nat) : Prop := p / 6 ≤ d / 6 ∧ d / 6 ≤ q / 6 ∧ p % 6 ≤ d % 6 ∧ d % 6 ≤ q % 6
/-- the value of one cell alone, as far as the walk has come -/
def sp_w (p q d : Nat) (w : Int32) (r c : Nat) (s : Int32) : Prop :=
  ((p / 6 ≤ d / 6 ∧ p % 6 ≤ d % 6 ∧ d % 6 ≤ q % 6 ∧ (d / 6 < r ∨ (d / 6 = r ∧ d % 6 < c))) → s = w) ∧ (¬ (p / 6 ≤ d / 6 ∧ p % 6 ≤ d % 6 ∧ d % 6 ≤ q % 6 ∧ (d / 6 < r ∨ (d / 6 = r ∧ d % 6 < c))) → s = 0)
theorem sp_w1 {p q d r c : Nat} {w s : Int32} (hr : p / 6 ≤ r) (hc : p % 6 ≤ c) (hc2 : c ≤ q % 6) (h : sp_w p q d w r c s) : sp_w p q d w r (c + 1) (s + if 6 * r + c = d then w else 0) := by
  by_cases e : 6 * r + c = d
  · rw [if_pos e, h.2 (by omega), Int32.zero_add]
    exact ⟨fun _ => rfl, fun z => absurd (by omega) z⟩
  · rw [if_neg e, Int32.add_zero]
    exact ⟨fun z => h.1 (by omega), fun z => h.2 (by omega)⟩
theorem sp_w2 {p q d r : Nat} {w s : Int32} (h : sp_w p q d w r (q % 6 + 1) s) : sp_w p q d w (r + 1) (p % 6) s :=
  ⟨fun z => h.1 (by omega), fun z => h.2 (by omega)⟩
theorem sp_tot {post : Int32 → Prop} {p q d : Nat} {w : Int32} (hc : sp_rc p q) (ha : sp_one a12 d w) (H1 : sp_hit p q d → post w) (H0 : ¬ sp_hit p q d → post 0) :
    wpX_totalOf post (f, a1, a2, a3, a4, a5, a6, a7, a8, a9, a10, a11, a12, a13) (nI p) (nI q) := by
  refine sp_to (sp_w p q d w) hc ⟨fun z => absurd z (by omega), fun _ => rfl⟩ (fun r c s g1 g2 g3 g4 g => ?_) (fun r s _ _ g => sp_w2 g) (fun s g => ?_)
  · obtain ⟨hp, hq, _, _⟩ := hc
    rw [ha (6 * r + c) (by omega)]
    exact sp_w1 g1 g3 g4 g
  · by_cases z : sp_hit p q d
    · have e : s = w := g.1 (by unfold sp_hit at z; omega)
      rw [e]
      exact H1 z
    · have e : s = 0 := g.2 (by unfold sp_hit at z; omega)
      rw [e]
      exact H0 z
/-! valueNow -/
theorem sp_c54 {post : Int32 → Prop} {x y z : Int32} (H : ∀ r, post r) : wX_combined_54 post x y z := br_c (fun _ => H _) (fun _ => H _)
theorem sp_cb {post : Int32 → Prop} {x y z : Int32} (H : ∀ r, post r) : wpX_combined post () x y z :=
  br_c (fun _ => H _) (fun _ => br_c (fun _ => H _) (fun _ => br_c (fun _ => H _) (fun _ => br_c (fun _ => br_c (fun _ => sp_c54 H) (fun _ => sp_c54 H)) (fun _ => br_c (fun _ => sp_c54 H) (fun _ => sp_c54 H)))))
theorem sp_vn {post : Int32 → Prop} {k : Nat} (hk : k < 36) (h6 : a6 k = -2) (ho : sp_o1 (a1 k) (a2 k) (a3 k)) (H : ∀ r, (a1 k = 1 → r = a2 k) → post r) :
    wpX_valueNow post (f, a1, a2, a3, a4, a5, a6, a7, a8, a9, a10, a11, a12, a13) (nI k) := by
  unfold wpX_valueNow
  dsimp only
  have hi : vp_in (nI k) 36 := pk_in k 36 hk
  rw [nI_clamp (show k < 2 ^ 31 by omega)]
  refine ⟨hi, br_t h6 ⟨hi, nm_e ?_⟩⟩
  rcases ho with h | ⟨h, h2, h3⟩ | ⟨h, p, q, hc, h2, h3⟩
  · exact br_t h ⟨hi, H _ (fun _ => rfl)⟩
  · have n1 : ¬ a1 k = 1 := by rw [h]; decide
    have n3 : ¬ a1 k = 3 := by rw [h]; decide
    have n4 : ¬ a1 k = 4 := by rw [h]; decide
    rw [h2, h3]
    exact br_f n1 (br_f n3 ⟨hi, pk_in 0 36 (by omega), nm_e ⟨hi, pk_in 0 36 (by omega), nm_e (br_f n4 ⟨hi, sp_cb (fun r => H r (fun z => absurd z n1))⟩)⟩⟩)
  · have n1 : ¬ a1 k = 1 := by rw [h]; decide
    rw [h2, h3]
    exact br_f n1 (br_t h ⟨hi, hi, sp_to (fun _ _ _ => True) hc trivial (fun _ _ _ _ _ _ _ _ => trivial) (fun _ _ _ _ _ => trivial) (fun s _ => H s (fun z => absurd z n1))⟩)
end
end
section
section
variable {f : Int64} {a1 a2 a3 a4 a5 a6 a7 a8 : Nat → Int32} {a9 a10 : Nat → Int64} {a11 a12 a13 : Nat → Int32}
/-! layOut: no spread formula lies anywhere -/
theorem sp_l172 {post : St2 → Prop} (h : ∀ k, k < 36 → a6 k = a7 k) (H : post (f, a1, a2, a3, a4, a5, a6, a7, a8, a9, a10, a11, a12, a13)) : ∃ n, wX_layOut_172 post a1 a2 a3 a4 a5 a6 a7 a8 a9 a10 a11 a12 a13 n 0 f :=
  pk_loop (σ := Unit) (fun n i _ => wX_layOut_172 post a1 a2 a3 a4 a5 a6 a7 a8 a9 a10 a11 a12 a13 n (nI i) f) (fun _ _ => True) 36 0 () (by omega) trivial
    (fun n _ _ => pk_le 36 36 (fun _ => H) (fun z => absurd z (by omega)))
    (fun n i _ hi _ hw => pk_le 36 i (fun z => absurd z (by omega)) (fun _ => ⟨pk_in i 36 hi, pk_in i 36 hi, br_t (by rw [nI_clamp (by omega)]; exact h i hi) (nm_r (nI_1 i) (hw () trivial))⟩))
theorem sp_l75 {post : St2 → Prop} {x : Int64} (h1 : ∀ k, k < 36 → ¬ a1 k = 5) (h : ∀ k, k < 36 → a6 k = a7 k) (H : post (f, a1, a2, a3, a4, a5, a6, a7, a8, a9, a10, a11, a12, a13)) : ∃ n, wX_layOut_75 post x n 0 0 f a1 a2 a3 a4 a5 a6 a7 a8 a9 a10 a11 a12 a13 :=
  pk_loop (σ := Unit) (fun n i _ => wX_layOut_75 post x n 0 (nI i) f a1 a2 a3 a4 a5 a6 a7 a8 a9 a10 a11 a12 a13) (fun _ _ => True) 36 0 () (by omega) trivial
    (fun n _ _ => pk_le 36 36 (fun _ => sp_l172 h H) (fun z => absurd z (by omega)))
    (fun n i _ hi _ hw => pk_le 36 i (fun z => absurd z (by omega)) (fun _ => ⟨pk_in i 36 hi, br_f (by rw [nI_clamp (by omega)]; exact h1 i hi) (nm_r (nI_1 i) (hw () trivial))⟩))
theorem sp_l27 {post : St2 → Prop} {J : Int64 → Int32 → (Nat → Int32) → (Nat → Int32) → (Nat → Int32) → (Nat → Int32) → (Nat → Int32) → (Nat → Int32) → (Nat → Int32) → (Nat → Int32) → (Nat → Int64) → (Nat → Int64) → (Nat → Int32) → (Nat → Int32) → (Nat → Int32) → Prop} {k : Nat} {x y : Int64} (hk : k < 36)
    (H : J (y ||| x) (nI (k + 1)) a1 a2 a3 a4 (upd a5 k (-2)) (upd a6 k (-2)) (upd a7 k (a6 k)) (upd a8 k 0) a9 a10 a11 a12 a13) : wX_layOut_27 post J (nI k) x y f a1 a2 a3 a4 a5 a6 a7 a8 a9 a10 a11 a12 a13 := by
  unfold wX_layOut_27
  have hi : vp_in (nI k) 36 := pk_in k 36 hk
  rw [nI_clamp (show k < 2 ^ 31 by omega)]
  exact nm_e ⟨hi, hi, nm_e ⟨hi, nm_e ⟨hi, nm_e ⟨hi, nm_e (nm_r (nI_1 k) H)⟩⟩⟩⟩
theorem sp_lay {post : St2 → Prop} (h6 : sp_all a6 (-2)) (h1 : ∀ k, k < 36 → ¬ a1 k = 5)
    (H : ∀ b5 b6 b7 b8, sp_all b6 (-2) → sp_all b8 0 → post (f, a1, a2, a3, a4, b5, b6, b7, b8, a9, a10, a11, a12, a13)) : wpX_layOut post (f, a1, a2, a3, a4, a5, a6, a7, a8, a9, a10, a11, a12, a13) := by
  refine pk_loop (fun n i s => wX_layOut_4 post f n s.1 (nI i) a1 a2 a3 a4 s.2.1 s.2.2.1 s.2.2.2.1 s.2.2.2.2 a9 a10 a11 a12 a13)
    (fun i s => sp_all s.2.2.1 (-2) ∧ ∀ k, k < i → s.2.2.2.1 k = -2 ∧ s.2.2.2.2 k = 0) 36 0 ((0 : Int64), a5, a6, a7, a8) (by omega) ⟨h6, fun k hk => absurd hk (by omega)⟩
    (fun n s h => pk_le 36 36 (fun _ => sp_l75 h1 (fun k hk => by rw [h.1 k hk, (h.2 k hk).1]) (H _ _ _ _ h.1 (fun k hk => (h.2 k hk).2))) (fun z => absurd z (by omega)))
    (fun n i s hi h hw => ?_)
  have G : ∀ x, wX_layOut_27 post (wX_layOut_4 post f n) (nI i) x s.1 f a1 a2 a3 a4 s.2.1 s.2.2.1 s.2.2.2.1 s.2.2.2.2 a9 a10 a11 a12 a13 := by
    intro x
    refine sp_l27 hi (hw (s.1 ||| x, upd s.2.1 i (-2), upd s.2.2.1 i (-2), upd s.2.2.2.1 i (s.2.2.1 i), upd s.2.2.2.2 i 0) ⟨fun k hk => ?_, fun k hk => ?_⟩)
    · show upd s.2.2.1 i (-2) k = -2
      by_cases e : k = i
      · rw [e, pk_us]
      · rw [pk_un e, h.1 k hk]
    · show upd s.2.2.2.1 i (s.2.2.1 i) k = -2 ∧ upd s.2.2.2.2 i 0 k = 0
      by_cases e : k = i
      · rw [e, pk_us, pk_us]
        exact ⟨h.1 i hi, rfl⟩
      · rw [pk_un e, pk_un e]
        exact h.2 k (by omega)
  exact pk_le 36 i (fun z => absurd z (by omega)) (fun _ => ⟨pk_in i 36 hi, br_c (fun _ => G _) (fun _ => G _)⟩)
/-! findWords -/
theorem sp_f117 {post : St2 → Prop} {J : Int32 → Int64 → (Nat → Int32) → (Nat → Int32) → (Nat → Int32) → (Nat → Int32) → (Nat → Int32) → (Nat → Int32) → (Nat → Int32) → (Nat → Int32) → (Nat → Int64) → (Nat → Int64) → (Nat → Int32) → (Nat → Int32) → (Nat → Int32) → Prop} {k : Nat} {x : Int64} (hk : k < 36)
    (H : ∀ g, (x = a9 k → g = f) → J (nI (k + 1)) g a1 a2 a3 a4 a5 a6 a7 a8 (vp_updL a9 k x) a10 a11 a12 a13) : wX_findWords_117 post J (nI k) x f a1 a2 a3 a4 a5 a6 a7 a8 a9 a10 a11 a12 a13 := by
  unfold wX_findWords_117
  have hi : vp_in (nI k) 36 := pk_in k 36 hk
  rw [nI_clamp (show k < 2 ^ 31 by omega)]
  exact ⟨hi, br_c (fun e => ⟨hi, nm_e (nm_r (nI_1 k) (H _ (fun _ => rfl)))⟩) (fun e => nm_e ⟨hi, nm_e (nm_r (nI_1 k) (H _ (fun z => absurd z e)))⟩)⟩
theorem sp_fw {post : St2 → Prop} (q : Prop) (h6 : sp_all a6 (-2)) (ho : sp_ok a1 a2 a3) (hq1 : q → ∀ k, k < 36 → ¬ a1 k = 3) (hq9 : q → sp_allL a9)
    (H : ∀ g b9, (q → g = f ∧ sp_allL b9) → post (g, a1, a2, a3, a4, a5, a6, a7, a8, b9, a10, a11, a12, a13)) : wpX_findWords post (f, a1, a2, a3, a4, a5, a6, a7, a8, a9, a10, a11, a12, a13) := by
  refine pk_loop (fun n i s => wX_findWords_2 post n (nI i) s.1 a1 a2 a3 a4 a5 a6 a7 a8 s.2 a10 a11 a12 a13) (fun _ s => q → s.1 = f ∧ sp_allL s.2) 36 0 (f, a9) (by omega) (fun z => ⟨rfl, hq9 z⟩)
    (fun n s h => pk_le 36 36 (fun _ => H _ _ h) (fun z => absurd z (by omega)))
    (fun n i s hi h hw => pk_le 36 i (fun z => absurd z (by omega)) (fun _ => ?_))
  have hv : vp_in (nI i) 36 := pk_in i 36 hi
  have G : ∀ x, (q → x = 0) → wX_findWords_117 post (wX_findWords_2 post n) (nI i) x s.1 a1 a2 a3 a4 a5 a6 a7 a8 s.2 a10 a11 a12 a13 := by
    intro x hx
    refine sp_f117 hi (fun g hg => hw (g, vp_updL s.2 i x) (fun z => ⟨?_, fun k hk => ?_⟩))
    · exact (hg (by rw [hx z, (h z).2 i hi])).trans (h z).1
    · show vp_updL s.2 i x k = 0
      by_cases e : k = i
      · rw [e, pk_uLs, hx z]
      · rw [pk_uLn e, (h z).2 k hk]
  rw [nI_clamp (show i < 2 ^ 31 by omega)]
  obtain ⟨_, n2, n4, _⟩ := sp_o5 (ho i hi)
  refine ⟨hv, nm_e ⟨hv, br_t (h6 i hi) (br_f n2 (br_f n4 ?_))⟩⟩
  by_cases n3 : a1 i = 3
  · rcases ho i hi with e | ⟨e, _⟩ | ⟨_, p, r, hc, e2, e3⟩
    · rw [e] at n3
      exact absurd n3 (by decide)
    · rw [e] at n3
      exact absurd n3 (by decide)
    · refine br_t n3 ⟨hv, hv, ?_⟩
      rw [e2, e3]
      exact sp_rs hc (fun y => G y (fun z => absurd n3 (hq1 z i hi)))
  · exact br_f n3 (G 0 (fun _ => rfl))
/-! close -/
theorem sp_c36 {post : St2 → Prop} {J : Int32 → (Nat → Int32) → (Nat → Int32) → (Nat → Int32) → (Nat → Int32) → (Nat → Int32) → (Nat → Int32) → (Nat → Int32) → (Nat → Int32) → (Nat → Int64) → (Nat → Int64) → (Nat → Int32) → (Nat → Int32) → (Nat → Int32) → Prop} {r : Nat} (q : Prop) (hr : r < 36) (h : q → sp_allL a10)
    (H : ∀ b10, (q → sp_allL b10) → J (nI (r + 1)) a1 a2 a3 a4 a5 a6 a7 a8 a9 b10 a11 a12 a13) : ∃ n, wX_close_36 post J (nI r) f n 0 a1 a2 a3 a4 a5 a6 a7 a8 a9 a10 a11 a12 a13 := by
  refine pk_loop (fun n i s => wX_close_36 post J (nI r) f n (nI i) a1 a2 a3 a4 a5 a6 a7 a8 a9 s a11 a12 a13) (fun _ s => q → sp_allL s) 36 0 a10 (by omega) h
    (fun n s h => pk_le 36 36 (fun _ => nm_r (nI_1 r) (H s h)) (fun z => absurd z (by omega)))
    (fun n i s hi h hw => pk_le 36 i (fun z => absurd z (by omega)) (fun _ => ⟨pk_in i 36 hi, ?_⟩))
  refine br_c (fun _ => ⟨pk_in i 36 hi, pk_in r 36 hr, pk_in i 36 hi, nm_e (nm_r (nI_1 i) (hw _ (fun z k hk => ?_)))⟩) (fun _ => nm_r (nI_1 i) (hw s h))
  rw [nI_clamp (show i < 2 ^ 31 by omega), nI_clamp (show r < 2 ^ 31 by omega)]
  by_cases e : k = i
  · rw [e, pk_uLs, h z i hi, h z r hr]
    decide
  · rw [pk_uLn e, h z k hk]
theorem sp_c28 {post : St2 → Prop} (q : Prop) (h : q → sp_allL a10) (H : ∀ b10, (q → sp_allL b10) → post (f, a1, a2, a3, a4, a5, a6, a7, a8, a9, b10, a11, a12, a13)) : ∃ n, wX_close_28 post f n 0 a1 a2 a3 a4 a5 a6 a7 a8 a9 a10 a11 a12 a13 :=
  pk_loop (fun n i s => wX_close_28 post f n (nI i) a1 a2 a3 a4 a5 a6 a7 a8 a9 s a11 a12 a13) (fun _ s => q → sp_allL s) 36 0 a10 (by omega) h
    (fun n s h => pk_le 36 36 (fun _ => H s h) (fun z => absurd z (by omega)))
    (fun n i s hi h hw => pk_le 36 i (fun z => absurd z (by omega)) (fun _ => sp_c36 q hi h (fun b hb => hw b hb)))
theorem sp_cl {post : St2 → Prop} (q : Prop) (h : q → sp_allL a9) (H : ∀ b10, (q → sp_allL b10) → post (f, a1, a2, a3, a4, a5, a6, a7, a8, a9, b10, a11, a12, a13)) : wpX_close post (f, a1, a2, a3, a4, a5, a6, a7, a8, a9, a10, a11, a12, a13) := by
  refine pk_loop (fun n i s => wX_close_2 post f n (nI i) a1 a2 a3 a4 a5 a6 a7 a8 a9 s a11 a12 a13) (fun i s => q → ∀ k, k < i → s k = 0) 36 0 a10 (by omega) (fun _ k hk => absurd hk (by omega))
    (fun n s h => pk_le 36 36 (fun _ => sp_c28 q h H) (fun z => absurd z (by omega)))
    (fun n i s hi h' hw => pk_le 36 i (fun z => absurd z (by omega)) (fun _ => ⟨pk_in i 36 hi, pk_in i 36 hi, nm_e (nm_r (nI_1 i) (hw _ (fun z k hk => ?_)))⟩))
  rw [nI_clamp (show i < 2 ^ 31 by omega)]
  by_cases e : k = i
  · rw [e, pk_uLs, h z i hi]
  · rw [pk_uLn e, h' z k (by omega)]
end
end
section
section
variable {f : Int64} {a1 a2 a3 a4 a5 a6 a7 a8 : Nat → Int32} {a9 a10 : Nat → Int64} {a11 a12 a13 : Nat → Int32}
/-! findStates -/
theorem sp_s148 {post : St2 → Prop} {J : Int32 → Int64 → (Nat → Int32) → (Nat → Int32) → (Nat → Int32) → (Nat → Int32) → (Nat → Int32) → (Nat → Int32) → (Nat → Int32) → (Nat → Int32) → (Nat → Int64) → (Nat → Int64) → (Nat → Int32) → (Nat → Int32) → (Nat → Int32) → Prop} {x1 x3 : Int64} {k : Nat} {x8 : Int32} (hk : k < 36)
    (H : ∀ g, (x8 = a11 k ∧ g = f) ∨ (¬ x8 = a11 k ∧ g = f ||| sp_b k) → J (nI (k + 1)) g a1 a2 a3 a4 a5 a6 a7 a8 a9 a10 (upd a11 k x8) a12 a13) : wX_findStates_148 post J x1 x3 (nI k) x8 f a1 a2 a3 a4 a5 a6 a7 a8 a9 a10 a11 a12 a13 := by
  unfold wX_findStates_148
  have hi : vp_in (nI k) 36 := pk_in k 36 hk
  rw [nI_clamp (show k < 2 ^ 31 by omega)]
  exact ⟨hi, br_c (fun e => ⟨hi, nm_e (nm_r (nI_1 k) (H _ (Or.inl ⟨e, rfl⟩)))⟩) (fun e => nm_e ⟨hi, nm_e (nm_r (nI_1 k) (H _ (Or.inr ⟨e, rfl⟩)))⟩)⟩
theorem sp_s119 {post : St2 → Prop} {J : Int32 → Int64 → (Nat → Int32) → (Nat → Int32) → (Nat → Int32) → (Nat → Int32) → (Nat → Int32) → (Nat → Int32) → (Nat → Int32) → (Nat → Int32) → (Nat → Int64) → (Nat → Int64) → (Nat → Int32) → (Nat → Int32) → (Nat → Int32) → Prop} {x1 x3 x6 : Int64} {x5 z0 : Int32}
    (H : ∀ x8, (x6 &&& x1 = 0 → x6 &&& x3 = 0 → x8 = z0) → wX_findStates_148 post J x1 x3 x5 x8 f a1 a2 a3 a4 a5 a6 a7 a8 a9 a10 a11 a12 a13) : wX_findStates_119 post J x1 x3 x5 x6 z0 f a1 a2 a3 a4 a5 a6 a7 a8 a9 a10 a11 a12 a13 :=
  br_c (fun h => br_c (fun h' => H _ (fun _ _ => rfl)) (fun h' => H _ (fun _ z => absurd z h'))) (fun h => H _ (fun z => absurd z h))
theorem sp_s71 {post : St2 → Prop} {x1 x3 : Int64} {c : Nat} (q : Prop) (hc : c < 36) (h6 : sp_all a6 (-2)) (hq1 : q → sp_one a1 c 1) (hx : q → x1 = 0 ∧ x3 = 0) (hf : q → f = sp_b c) (hq11 : q → sp_all a11 0)
    (H : ∀ g b11, (q → g = sp_b c ∧ sp_one b11 c 1) → post (g, a1, a2, a3, a4, a5, a6, a7, a8, a9, a10, b11, a12, a13)) : ∃ n, wX_findStates_71 post x1 x3 n 0 f a1 a2 a3 a4 a5 a6 a7 a8 a9 a10 a11 a12 a13 := by
  refine pk_loop (fun n i s => wX_findStates_71 post x1 x3 n (nI i) s.1 a1 a2 a3 a4 a5 a6 a7 a8 a9 a10 s.2 a12 a13) (fun i s => q → s.1 = sp_b c ∧ ∀ k, k < 36 → s.2 k = if k < i then (if k = c then 1 else 0) else 0) 36 0 (f, a11) (by omega)
    (fun z => ⟨hf z, fun k hk => by rw [if_neg (by omega)]; exact hq11 z k hk⟩)
    (fun n s h => pk_le 36 36 (fun _ => H _ _ (fun z => ⟨(h z).1, fun k hk => by rw [(h z).2 k hk, if_pos hk]⟩)) (fun z => absurd z (by omega)))
    (fun n i s hi h hw => pk_le 36 i (fun z => absurd z (by omega)) (fun _ => ?_))
  have hv : vp_in (nI i) 36 := pk_in i 36 hi
  have G : ∀ x8, (q → x8 = if i = c then 1 else 0) → wX_findStates_148 post (wX_findStates_71 post x1 x3 n) x1 x3 (nI i) x8 s.1 a1 a2 a3 a4 a5 a6 a7 a8 a9 a10 s.2 a12 a13 := by
    intro x8 h8
    refine sp_s148 hi (fun g hg => hw (g, upd s.2 i x8) (fun z => ⟨?_, fun k hk => ?_⟩))
    · show g = sp_b c
      rcases hg with ⟨_, eg⟩ | ⟨e, eg⟩
      · rw [eg, (h z).1]
      · have e0 : s.2 i = 0 := by rw [(h z).2 i hi, if_neg (by omega)]
        by_cases ec : i = c
        · rw [eg, (h z).1, ec, sp_bb c hc]
        · rw [h8 z, if_neg ec, e0] at e
          exact absurd rfl e
    · show upd s.2 i x8 k = _
      by_cases e : k = i
      · rw [e, pk_us, h8 z, if_pos (show i < i + 1 by omega)]
      · rw [pk_un e, (h z).2 k hk]
        by_cases l : k < i
        · rw [if_pos l, if_pos (show k < i + 1 by omega)]
        · rw [if_neg l, if_neg (show ¬ k < i + 1 by omega)]
  rw [nI_clamp (show i < 2 ^ 31 by omega)]
  refine ⟨hv, nm_e ⟨hv, br_c (fun e => ⟨hv, br_t (h6 i hi) (sp_s119 (fun x8 h8 => G x8 (fun z => ?_)))⟩) (fun e => sp_s119 (z0 := 1) (fun x8 h8 => G x8 (fun z => ?_)))⟩⟩
  · rw [h8 (by rw [(hx z).1, sp_az]) (by rw [(hx z).2, sp_az])]
    by_cases ec : i = c
    · rw [hq1 z i hi, if_pos ec] at e
      exact absurd e (by decide)
    · rw [if_neg ec]
  · rw [h8 (by rw [(hx z).1, sp_az]) (by rw [(hx z).2, sp_az])]
    by_cases ec : i = c
    · rw [if_pos ec]
    · rw [hq1 z i hi, if_neg ec] at e
      exact absurd rfl e
theorem sp_fs {post : St2 → Prop} {c : Nat} (q : Prop) (hc : c < 36) (h6 : sp_all a6 (-2)) (h8 : sp_all a8 0) (ho : sp_ok a1 a2 a3) (hq1 : q → sp_one a1 c 1) (hq10 : q → sp_allL a10) (hf : q → f = sp_b c) (hq11 : q → sp_all a11 0)
    (H : ∀ g b11, (q → g = sp_b c ∧ sp_one b11 c 1) → post (g, a1, a2, a3, a4, a5, a6, a7, a8, a9, a10, b11, a12, a13)) : wpX_findStates post (f, a1, a2, a3, a4, a5, a6, a7, a8, a9, a10, a11, a12, a13) := by
  refine pk_loop (fun n i s => wX_findStates_7 post f a1 a2 a3 a4 a5 a6 a7 a8 a9 a10 a11 a12 a13 n s.1 s.2 (nI i)) (fun _ s => q → s.1 = 0 ∧ s.2 = 0) 36 0 ((0 : Int64), (0 : Int64)) (by omega) (fun _ => ⟨rfl, rfl⟩)
    (fun n s h => pk_le 36 36 (fun _ => sp_s71 q hc h6 hq1 h hf hq11 H) (fun z => absurd z (by omega)))
    (fun n i s hi h hw => pk_le 36 i (fun z => absurd z (by omega)) (fun _ => ?_))
  have hv : vp_in (nI i) 36 := pk_in i 36 hi
  rw [nI_clamp (show i < 2 ^ 31 by omega)]
  refine ⟨hv, nm_e ⟨hv, br_t (h8 i hi) ⟨hv, br_f (sp_o5 (ho i hi)).2.2.2 (nm_e (nm_r (nI_1 i) (hw (_, _) (fun z => ⟨?_, ?_⟩))))⟩⟩⟩
  · show s.1 ||| (a10 i &&& sp_b i) = 0
    rw [(h z).1, hq10 z i hi, sp_za]
    decide
  · show s.2 ||| 0 = 0
    rw [(h z).2]
    decide
/-! workOut: while the one cell waits, and behind that -/
def sp_E (c : Nat) (v : Int32) (b : Prop) (x : Int64) (a : Nat → Int32) : Prop := (b → x = 0 ∧ sp_one a c v) ∧ (¬ b → x = sp_b c ∧ sp_all a 0)
theorem sp_Eskip {c i : Nat} {v : Int32} {x : Int64} {a : Nat → Int32} (hc : c < 36) (hi : i < 36) (h : sp_E c v (c < i) x a) (hb : ¬ (((x.toUInt64 >>> ((nI i).toInt64.toUInt64 &&& Int64.toUInt64 63)).toInt64) &&& 1) = 1) : sp_E c v (c < i + 1) x a := by
  by_cases l : c < i
  · exact ⟨fun _ => h.1 l, fun z => absurd (by omega) z⟩
  · have e := h.2 l
    rw [e.1, sp_bit c hc i hi] at hb
    exact ⟨fun z => absurd z (by omega), fun _ => e⟩
theorem sp_Eset {c i : Nat} {v : Int32} {x : Int64} {a : Nat → Int32} (hc : c < 36) (hi : i < 36) (h : sp_E c v (c < i) x a) (hb : (((x.toUInt64 >>> ((nI i).toInt64.toUInt64 &&& Int64.toUInt64 63)).toInt64) &&& 1) = 1) : i = c ∧ x = sp_b c ∧ sp_all a 0 := by
  by_cases l : c < i
  · rw [(h.1 l).1] at hb
    exact absurd hb (sp_bit0 i hi)
  · have e := h.2 l
    rw [e.1, sp_bit c hc i hi] at hb
    exact ⟨hb, e⟩
theorem sp_o83 {post : St2 → Prop} {J : Int64 → Int32 → (Nat → Int32) → (Nat → Int32) → (Nat → Int32) → (Nat → Int32) → (Nat → Int32) → (Nat → Int32) → (Nat → Int32) → (Nat → Int32) → (Nat → Int64) → (Nat → Int64) → (Nat → Int32) → (Nat → Int32) → (Nat → Int32) → Prop} {r c : Nat} {v : Int32} {x : Int64} (q : Prop) (hc : c < 36) (h6 : sp_all a6 (-2)) (ho : sp_ok a1 a2 a3) (hq1 : q → sp_one a1 c 1) (hq2 : q → a2 c = v) (hq9 : q → sp_allL a9)
    (h : q → x = sp_b c ∧ sp_all a12 0) (H : ∀ y b12, (q → y = 0 ∧ sp_one b12 c v) → J y (nI (r + 1)) a1 a2 a3 a4 a5 a6 a7 a8 a9 a10 a11 b12 a13) : ∃ n, wX_workOut_83 post J (nI r) f n x 0 a1 a2 a3 a4 a5 a6 a7 a8 a9 a10 a11 a12 a13 := by
  refine pk_loop (fun n i s => wX_workOut_83 post J (nI r) f n s.1 (nI i) a1 a2 a3 a4 a5 a6 a7 a8 a9 a10 a11 s.2 a13) (fun i s => q → sp_E c v (c < i) s.1 s.2) 36 0 (x, a12) (by omega) (fun z => ⟨fun k => absurd k (by omega), fun _ => h z⟩)
    (fun n s h => pk_le 36 36 (fun _ => nm_r (nI_1 r) (H _ _ (fun z => (h z).1 hc))) (fun z => absurd z (by omega)))
    (fun n i s hi h hw => pk_le 36 i (fun z => absurd z (by omega)) (fun _ => ?_))
  have hv : vp_in (nI i) 36 := pk_in i 36 hi
  rw [nI_clamp (show i < 2 ^ 31 by omega)]
  refine br_c (fun hb => ⟨hv, br_c (fun h9 => sp_vn hi (h6 i hi) (ho i hi) (fun y hy => ⟨hv, nm_e (nm_e (nm_r (nI_1 i) (hw (_, _) (fun z => ?_))))⟩)) (fun h9 => nm_r (nI_1 i) (hw s (fun z => ?_)))⟩) (fun hb => nm_r (nI_1 i) (hw s (fun z => sp_Eskip hc hi (h z) hb)))
  · obtain ⟨e, ex, ea⟩ := sp_Eset hc hi (h z) hb
    have ev : y = v := by rw [hy (by rw [hq1 z i hi, if_pos e]), e, hq2 z]
    refine ⟨fun _ => ⟨?_, ?_⟩, fun k => absurd (by omega) k⟩
    · show s.1 &&& (sp_b i ^^^ (-1)) = 0
      rw [ex, e, sp_bx c hc]
    · exact sp_upc (fun k hk en => by rw [ea k hk, if_neg (by omega)]) (by rw [if_pos e, ev])
  · rw [hq9 z i hi, sp_za] at h9
    exact absurd rfl h9
theorem sp_o68 {post : St2 → Prop} {c : Nat} {v : Int32} {x : Int64} (q : Prop) (hc : c < 36) (h6 : sp_all a6 (-2)) (ho : sp_ok a1 a2 a3) (hq1 : q → sp_one a1 c 1) (hq2 : q → a2 c = v) (hq9 : q → sp_allL a9)
    (h : q → x = sp_b c ∧ sp_all a12 0) (H : ∀ b12, (q → sp_one b12 c v) → post (f, a1, a2, a3, a4, a5, a6, a7, a8, a9, a10, a11, b12, a13)) : ∃ n, wX_workOut_68 post f n x 0 a1 a2 a3 a4 a5 a6 a7 a8 a9 a10 a11 a12 a13 := by
  refine pk_loop (fun n i s => wX_workOut_68 post f n s.1 (nI i) a1 a2 a3 a4 a5 a6 a7 a8 a9 a10 a11 s.2 a13) (fun i s => q → sp_E c v (0 < i) s.1 s.2) 36 0 (x, a12) (by omega) (fun z => ⟨fun k => absurd k (by omega), fun _ => h z⟩)
    (fun n s h => pk_le 36 36 (fun _ => H _ (fun z => ((h z).1 (by omega)).2)) (fun z => absurd z (by omega)))
    (fun n i s hi h hw => pk_le 36 i (fun z => absurd z (by omega)) (fun _ => br_c (fun e => H _ (fun z => ?_))
      (fun e => sp_o83 q hc h6 ho hq1 hq2 hq9 (fun z => ?_) (fun y b hb => hw (y, b) (fun z => ⟨fun _ => hb z, fun k => absurd (by omega) k⟩)))))
  · by_cases l : 0 < i
    · exact ((h z).1 l).2
    · exact absurd (((h z).2 l).1.symm.trans e) (sp_bn c hc)
  · by_cases l : 0 < i
    · exact absurd ((h z).1 l).1 e
    · exact (h z).2 l
theorem sp_wo {post : St2 → Prop} {c : Nat} {v : Int32} (q : Prop) (hc : c < 36) (h6 : sp_all a6 (-2)) (ho : sp_ok a1 a2 a3) (hq1 : q → sp_one a1 c 1) (hq2 : q → a2 c = v) (hq9 : q → sp_allL a9) (hq10 : q → sp_allL a10) (hq11 : q → sp_one a11 c 1) (hf : q → f = sp_b c)
    (hq12 : q → sp_all a12 0) (H : ∀ b12, (q → sp_one b12 c v) → post (f, a1, a2, a3, a4, a5, a6, a7, a8, a9, a10, a11, b12, a13)) : wpX_workOut post (f, a1, a2, a3, a4, a5, a6, a7, a8, a9, a10, a11, a12, a13) := by
  refine pk_loop (fun n i s => wX_workOut_4 post f n s.1 (nI i) a1 a2 a3 a4 a5 a6 a7 a8 a9 a10 a11 s.2 a13) (fun i s => q → (s.1 = if c < i then sp_b c else 0) ∧ sp_all s.2 0) 36 0 ((0 : Int64), a12) (by omega) (fun z => ⟨by rw [if_neg (by omega)], hq12 z⟩)
    (fun n s h => pk_le 36 36 (fun _ => sp_o68 q hc h6 ho hq1 hq2 hq9 (fun z => ⟨by rw [(h z).1, if_pos hc], (h z).2⟩) H) (fun z => absurd z (by omega)))
    (fun n i s hi h hw => pk_le 36 i (fun z => absurd z (by omega)) (fun _ => ?_))
  have hv : vp_in (nI i) 36 := pk_in i 36 hi
  rw [nI_clamp (show i < 2 ^ 31 by omega)]
  refine ⟨hv, nm_e ⟨hv, br_c (fun e => br_c (fun g => nm_r (nI_1 i) (hw s (fun z => ?_))) (fun g => nm_e (nm_r (nI_1 i) (hw (s.1 ||| sp_b i, s.2) (fun z => ?_))))) (fun e => ⟨hv, nm_e (nm_r (nI_1 i) (hw (s.1, upd s.2 i 0) (fun z => ?_)))⟩)⟩⟩
  · by_cases ec : i = c
    · rw [hq10 z i hi, hf z, ec] at g
      exact absurd g (sp_bf c hc)
    · rw [hq11 z i hi, if_neg ec] at e
      exact absurd e (by decide)
  · by_cases ec : i = c
    · refine ⟨?_, (h z).2⟩
      show s.1 ||| sp_b i = _
      rw [(h z).1, if_neg (by omega), if_pos (by omega), ec, sp_b0 c hc]
    · rw [hq11 z i hi, if_neg ec] at e
      exact absurd e (by decide)
  · by_cases ec : i = c
    · rw [hq11 z i hi, if_pos ec] at e
      exact absurd rfl e
    · refine ⟨?_, fun k hk => ?_⟩
      · show s.1 = _
        rw [(h z).1]
        by_cases l : c < i
        · rw [if_pos l, if_pos (by omega)]
        · rw [if_neg l, if_neg (by omega)]
      · show upd s.2 i 0 k = 0
        by_cases ek : k = i
        · rw [ek, pk_us]
        · rw [pk_un ek, (h z).2 k hk]
end
end
section
section
variable {f : Int64} {a1 a2 a3 a4 a5 a6 a7 a8 : Nat → Int32} {a9 a10 : Nat → Int64} {a11 a12 a13 : Nat → Int32}
/-! renew: it ends on every sheet of numbers, sums and empty cells; q: the one number on an empty sheet -/
theorem sp_rn {post : St2 → Prop} {c : Nat} {v : Int32} (q : Prop) (hc : c < 36) (h6 : sp_all a6 (-2)) (ho : sp_ok a1 a2 a3) (hq1 : q → sp_one a1 c 1) (hq2 : q → a2 c = v) (hq9 : q → sp_allL a9) (hq11 : q → sp_all a11 0) (hq12 : q → sp_all a12 0)
    (H : ∀ g b5 b6 b7 b8 b9 b10 b11 b12, sp_all b6 (-2) → (q → sp_one b11 c 1 ∧ sp_one b12 c v) → post (g, a1, a2, a3, a4, b5, b6, b7, b8, b9, b10, b11, b12, a13)) : wpX_renew post (f, a1, a2, a3, a4, a5, a6, a7, a8, a9, a10, a11, a12, a13) (nI c) := by
  have n3 : q → ∀ k, k < 36 → ¬ a1 k = 3 := by
    intro z k hk
    rw [hq1 z k hk]
    by_cases e : k = c
    · rw [if_pos e]
      decide
    · rw [if_neg e]
      decide
  unfold wpX_renew
  dsimp only
  refine nm_e (sp_lay h6 (fun k hk => (sp_o5 (ho k hk)).1) (fun b5 b6 b7 b8 g6 g8 => ?_))
  dsimp only
  refine sp_fw q g6 ho n3 hq9 (fun g b9 h9 => ?_)
  dsimp only
  refine sp_cl q (fun z => (h9 z).2) (fun b10 h10 => ?_)
  dsimp only
  refine sp_fs q hc g6 g8 ho hq1 h10 (fun z => (h9 z).1) hq11 (fun g' b11 h11 => ?_)
  dsimp only
  refine sp_wo (v := v) q hc g6 ho hq1 hq2 (fun z => (h9 z).2) h10 (fun z => (h11 z).2) (fun z => (h11 z).1) hq12 (fun b12 h12 => ?_)
  exact H _ _ _ _ _ _ _ _ _ g6 (fun z => ⟨(h11 z).2, h12 z⟩)
theorem sp_wr {post : St2 → Prop} {c : Nat} {x1 x2 x3 x4 : Int32} (hc : c < 36) (H : post (f, upd a1 c x1, upd a2 c x2, upd a3 c x3, upd a4 c x4, a5, a6, a7, a8, a9, a10, a11, a12, a13)) : wpX_write post (f, a1, a2, a3, a4, a5, a6, a7, a8, a9, a10, a11, a12, a13) (nI c) x1 x2 x3 x4 := by
  unfold wpX_write
  dsimp only
  have hi : vp_in (nI c) 36 := pk_in c 36 hc
  rw [nI_clamp (show c < 2 ^ 31 by omega)]
  exact ⟨hi, nm_e ⟨hi, nm_e ⟨hi, nm_e ⟨hi, nm_e H⟩⟩⟩⟩
theorem sp_ic0 {post : Int32 → Prop} {x : Int32} (h : x < 0 ∨ 36 ≤ x) (H : post 0) : wpX_isCell post () x := by
  by_cases g : x < 0
  · exact br_t g H
  · exact br_f g (br_t (h.resolve_left g) H)
theorem sp_ic1 {post : Int32 → Prop} {c : Nat} (hc : c < 36) (H : post 1) : wpX_isCell post () (nI c) :=
  br_f (nI_pos (by omega)) (pk_le 36 c (fun z => absurd z (by omega)) (fun _ => H))
theorem sp_in {post : St2 → Prop} (H : ∀ b5 b6, sp_all b6 (-2) → post (0, (fun _ => 0), (fun _ => 0), (fun _ => 0), (fun _ => 0), b5, b6, (fun _ => 0), (fun _ => 0), (fun _ => 0), (fun _ => 0), (fun _ => 0), (fun _ => 0), (fun _ => 0))) : wpX_init post 13 468 0 := by
  unfold wpX_init
  refine ⟨by omega, by omega, by omega, by omega, by omega, by omega, by omega, by omega, by omega, by omega, by omega, by omega, by omega, by omega, by omega, by omega, by omega, by omega, by omega, by omega, by omega, by omega, by omega, by omega, by omega, by omega, ?_⟩
  refine pk_loop (σ := (Nat → Int32) × (Nat → Int32)) (fun n i s => wX_init_110 post 13 468 13 468 0 n (nI i) (fun _ => 0) (fun _ => 0) (fun _ => 0) (fun _ => 0) s.1 s.2 (fun _ => 0) (fun _ => 0) (fun _ => 0) (fun _ => 0) (fun _ => 0) (fun _ => 0) (fun _ => 0)) (fun i s => ∀ k, k < i → s.2 k = -2) 36 0 ((fun _ => 0), (fun _ => 0)) (by omega) (fun k hk => absurd hk (by omega))
    (fun n s h => pk_le 36 36 (fun _ => H _ _ h) (fun z => absurd z (by omega)))
    (fun n i s hi h hw => pk_le 36 i (fun z => absurd z (by omega)) (fun _ => ⟨pk_in i 36 hi, nm_e ⟨pk_in i 36 hi, nm_e (nm_r (nI_1 i) (hw (_, _) (fun k hk => ?_)))⟩⟩))
  show upd s.2 (nI i).toNatClampNeg (-2) k = -2
  rw [nI_clamp (show i < 2 ^ 31 by omega)]
  by_cases e : k = i
  · rw [e, pk_us]
  · rw [pk_un e, h k (by omega)]
/-- the sheet behind the call of number: kk the kind and state of cell c, v its value, all other values 0 -/
def sp_K (c : Nat) (kk v : Int32) (a1 a2 a3 a6 a11 a12 : Nat → Int32) : Prop := sp_all a6 (-2) ∧ sp_ok a1 a2 a3 ∧ a1 c = kk ∧ a11 c = kk ∧ sp_one a12 c v
theorem sp_K0 {c : Nat} {b6 : Nat → Int32} (h6 : sp_all b6 (-2)) : sp_K c 0 0 (fun _ => 0) (fun _ => 0) (fun _ => 0) b6 (fun _ => 0) (fun _ => 0) :=
  ⟨h6, fun _ _ => Or.inr (Or.inl ⟨rfl, rfl, rfl⟩), rfl, rfl, sp_one0 (fun _ _ => rfl)⟩
theorem sp_nu {post : Int32 → St2 → Prop} {c : Nat} {v : Int32} {b5 b6 : Nat → Int32} (hc : c < 36) (h6 : sp_all b6 (-2)) (hv1 : ¬ v < -1000) (hv2 : v ≤ 1000)
    (H : ∀ f a1 a2 a3 a4 a5 a6 a7 a8 a9 a10 a11 a12 a13, sp_K c 1 v a1 a2 a3 a6 a11 a12 → post 0 (f, a1, a2, a3, a4, a5, a6, a7, a8, a9, a10, a11, a12, a13)) :
    wpX_number post (0, (fun _ => 0), (fun _ => 0), (fun _ => 0), (fun _ => 0), b5, b6, (fun _ => 0), (fun _ => 0), (fun _ => 0), (fun _ => 0), (fun _ => 0), (fun _ => 0), (fun _ => 0)) (nI c) v := by
  have ho : sp_ok (upd (fun _ => 0) c 1) (upd (fun _ => 0) c v) (upd (fun _ => 0) c 0) := by
    intro k hk
    by_cases e : k = c
    · rw [e, pk_us]
      exact Or.inl rfl
    · rw [pk_un e, pk_un e, pk_un e]
      exact Or.inr (Or.inl ⟨rfl, rfl, rfl⟩)
  unfold wpX_number
  dsimp only
  refine sp_ic1 hc (br_f (by decide) (br_f hv1 (br_t hv2 (sp_wr hc ?_))))
  dsimp only
  refine sp_rn (v := v) True hc h6 ho (fun _ => sp_upc (fun k hk e => by rw [if_neg e]) (by rw [if_pos rfl])) (fun _ => pk_us) (fun _ _ _ => rfl) (fun _ _ _ => rfl) (fun _ _ _ => rfl) (fun g b5 b6 b7 b8 b9 b10 b11 b12 g6 hq => ?_)
  refine H g (upd (fun _ => 0) c 1) (upd (fun _ => 0) c v) (upd (fun _ => 0) c 0) (upd (fun _ => 0) c 0) b5 b6 b7 b8 b9 b10 b11 b12 (fun _ => 0) ⟨g6, ho, pk_us, ?_, (hq trivial).2⟩
  rw [(hq trivial).1 c hc, if_pos rfl]
theorem sp_nu1 {post : Int32 → St2 → Prop} {x0 x1 : Int32} (h : x0 < 0 ∨ 36 ≤ x0) (H : post (-1) (f, a1, a2, a3, a4, a5, a6, a7, a8, a9, a10, a11, a12, a13)) : wpX_number post (f, a1, a2, a3, a4, a5, a6, a7, a8, a9, a10, a11, a12, a13) x0 x1 := by
  unfold wpX_number
  dsimp only
  exact sp_ic0 h (br_t rfl H)
theorem sp_nu2 {post : Int32 → St2 → Prop} {c : Nat} {x1 : Int32} (hc : c < 36) (h : x1 < -1000 ∨ ¬ x1 ≤ 1000) (H : post (-2) (f, a1, a2, a3, a4, a5, a6, a7, a8, a9, a10, a11, a12, a13)) : wpX_number post (f, a1, a2, a3, a4, a5, a6, a7, a8, a9, a10, a11, a12, a13) (nI c) x1 := by
  unfold wpX_number
  dsimp only
  refine sp_ic1 hc (br_f (by decide) ?_)
  by_cases g : x1 < -1000
  · exact br_t g H
  · exact br_f g (br_f (h.resolve_left g) H)
/-! the answers -/
theorem sp_ki0 {post : Int32 → Prop} {x0 : Int32} (h : x0 < 0 ∨ 36 ≤ x0) (H : post (-1)) : wpX_kind post (f, a1, a2, a3, a4, a5, a6, a7, a8, a9, a10, a11, a12, a13) x0 := by
  unfold wpX_kind
  dsimp only
  exact sp_ic0 h (br_t rfl H)
theorem sp_ki1 {post : Int32 → Prop} {c : Nat} {y : Int32} (hc : c < 36) (e : a1 c = y) (H : post y) : wpX_kind post (f, a1, a2, a3, a4, a5, a6, a7, a8, a9, a10, a11, a12, a13) (nI c) := by
  unfold wpX_kind
  dsimp only
  refine sp_ic1 hc (br_f (by decide) ⟨pk_in c 36 hc, ?_⟩)
  rw [nI_clamp (show c < 2 ^ 31 by omega), e]
  exact H
theorem sp_st0 {post : Int32 → Prop} {x0 : Int32} (h : x0 < 0 ∨ 36 ≤ x0) (H : post (-1)) : wpX_state post (f, a1, a2, a3, a4, a5, a6, a7, a8, a9, a10, a11, a12, a13) x0 := by
  unfold wpX_state
  dsimp only
  exact sp_ic0 h (br_t rfl H)
theorem sp_st1 {post : Int32 → Prop} {c : Nat} {y : Int32} (hc : c < 36) (e : a11 c = y) (H : post y) : wpX_state post (f, a1, a2, a3, a4, a5, a6, a7, a8, a9, a10, a11, a12, a13) (nI c) := by
  unfold wpX_state
  dsimp only
  refine sp_ic1 hc (br_f (by decide) ⟨pk_in c 36 hc, ?_⟩)
  rw [nI_clamp (show c < 2 ^ 31 by omega), e]
  exact H
theorem sp_va0 {post : Int32 → Prop} {x0 : Int32} (h : x0 < 0 ∨ 36 ≤ x0) (H : post 0) : wpX_value post (f, a1, a2, a3, a4, a5, a6, a7, a8, a9, a10, a11, a12, a13) x0 := by
  unfold wpX_value
  dsimp only
  exact sp_ic0 h (br_t rfl H)
theorem sp_va1 {post : Int32 → Prop} {c : Nat} {y : Int32} (hc : c < 36) (e : a12 c = y) (H : post y) : wpX_value post (f, a1, a2, a3, a4, a5, a6, a7, a8, a9, a10, a11, a12, a13) (nI c) := by
  unfold wpX_value
  dsimp only
  refine sp_ic1 hc (br_f (by decide) ⟨pk_in c 36 hc, ?_⟩)
  rw [nI_clamp (show c < 2 ^ 31 by omega), e]
  exact H
theorem sp_isR {post : Int32 → Prop} {x : Int32} (H0 : (¬ ∃ m, sp_bm x m) → post 0) (H1 : ∀ m, sp_bm x m → post 1) : wpX_isRectangle post () x := by
  rcases sp_ri x with h | ⟨j, h1, h2, rfl⟩ | ⟨m, hm, rfl⟩
  · refine ⟨sp_36, nm_e ⟨sp_36, nm_e (br_t h (H0 (fun ⟨m, hb⟩ => ?_)))⟩⟩
    rw [hb.2.1] at h
    exact absurd h (nI_pos (by have := hb.1; omega))
  · refine ⟨sp_36, nm_r (sp_d36 h2) ⟨sp_36, nm_e (br_f (nI_pos h2) (br_t (nI_le (a := 36) (b := j / 36) (by omega) (by omega)) (H0 (fun ⟨m, hb⟩ => ?_))))⟩⟩
    have := sp_bmj h2 hb
    have := hb.1
    omega
  · have hj : m < 2 ^ 31 := by omega
    have N : ∀ (p : ¬ (m / 36 / 6 ≤ m % 36 / 6 ∧ m / 36 % 6 ≤ m % 36 % 6)), ¬ ∃ m', sp_bm (nI m) m' := by
      intro p ⟨m', hb⟩
      have e := sp_bmj hj hb
      rw [← e] at hb
      exact p hb.2.2.2.2
    refine ⟨sp_36, nm_r (sp_d36 hj) ⟨sp_36, nm_r (sp_r36 hj) (br_f (nI_pos hj) (pk_le 36 (m / 36) (fun z => absurd z (by omega)) (fun _ => ⟨sp_6, sp_6, ?_⟩)))⟩⟩
    exact pk_lt (m % 36 / 6) (m / 36 / 6) (fun z => H0 (N (by omega))) (fun z => ⟨sp_6, sp_6, pk_lt (m % 36 % 6) (m / 36 % 6) (fun z' => H0 (N (by omega))) (fun z' => H1 m (sp_bmc hm z z')) (sp_r6 (by omega)) (sp_r6 (by omega))⟩) (sp_d6 (by omega)) (sp_d6 (by omega))
theorem sp_tl {post : Int32 → Prop} {x : Int32} {d : Nat} {w : Int32} (ha : sp_one a12 d w) (H0 : (¬ ∃ m, sp_bm x m) → post 0) (H1 : ∀ m, sp_bm x m → (sp_hit (m / 36) (m % 36) d → post w) ∧ (¬ sp_hit (m / 36) (m % 36) d → post 0)) : wpX_total post (f, a1, a2, a3, a4, a5, a6, a7, a8, a9, a10, a11, a12, a13) x := by
  unfold wpX_total
  dsimp only
  refine sp_isR (fun h => br_t rfl (H0 h)) (fun m h => br_f (by decide) ⟨sp_36, sp_36, ?_⟩)
  have h1 := H1 m h
  obtain ⟨hm, hx, hr⟩ := h
  rw [hx, sp_r36 (by omega), sp_d36 (by omega)]
  exact sp_tot hr ha h1.1 h1.2
theorem sp_su0 {post : Int32 → St2 → Prop} {x0 x2 : Int32} (h : x0 < 0 ∨ 36 ≤ x0) (H : post (-1) (f, a1, a2, a3, a4, a5, a6, a7, a8, a9, a10, a11, a12, a13)) : wpX_sum post (f, a1, a2, a3, a4, a5, a6, a7, a8, a9, a10, a11, a12, a13) x0 x2 := by
  unfold wpX_sum
  dsimp only
  exact sp_ic0 h (br_t rfl H)
theorem sp_su2 {post : Int32 → St2 → Prop} {c : Nat} {x2 : Int32} (hc : c < 36) (hb : ¬ ∃ m, sp_bm x2 m) (H : post (-2) (f, a1, a2, a3, a4, a5, a6, a7, a8, a9, a10, a11, a12, a13)) : wpX_sum post (f, a1, a2, a3, a4, a5, a6, a7, a8, a9, a10, a11, a12, a13) (nI c) x2 := by
  unfold wpX_sum
  dsimp only
  exact sp_ic1 hc (br_f (by decide) (sp_isR (fun _ => br_t rfl H) (fun m h => absurd ⟨m, h⟩ hb)))
theorem sp_su1 {post : Int32 → St2 → Prop} {c m : Nat} {x2 : Int32} (hc : c < 36) (hb : sp_bm x2 m) (h6 : sp_all a6 (-2)) (ho : sp_ok a1 a2 a3)
    (H : ∀ f a1 a2 a3 a4 a5 a6 a7 a8 a9 a10 a11 a12 a13, post ((((nI (m % 36) / 6) - (nI (m / 36) / 6)) + 1) * (((nI (m % 36) - nI (m % 36) / 6 * 6) - (nI (m / 36) - nI (m / 36) / 6 * 6)) + 1)) (f, a1, a2, a3, a4, a5, a6, a7, a8, a9, a10, a11, a12, a13)) : wpX_sum post (f, a1, a2, a3, a4, a5, a6, a7, a8, a9, a10, a11, a12, a13) (nI c) x2 := by
  have ho' : sp_ok (upd a1 c 3) (upd a2 c (nI (m / 36))) (upd a3 c (nI (m % 36))) := by
    intro k hk
    by_cases e : k = c
    · rw [e, pk_us, pk_us, pk_us]
      exact Or.inr (Or.inr ⟨rfl, _, _, hb.2.2, rfl, rfl⟩)
    · rw [pk_un e, pk_un e, pk_un e]
      exact ho k hk
  have hm : m < 2 ^ 31 := by have := hb.1; omega
  unfold wpX_sum
  dsimp only
  refine sp_ic1 hc (br_f (by decide) (sp_isR (fun h => absurd ⟨m, hb⟩ h) (fun _ _ => br_f (by decide) ⟨sp_36, ?_⟩)))
  rw [hb.2.1]
  refine nm_r (sp_d36 hm) ⟨sp_36, nm_r (sp_r36 hm) (sp_wr hc ?_)⟩
  dsimp only
  exact sp_rn (v := 0) False hc h6 ho' False.elim False.elim False.elim False.elim False.elim (fun g b5 b6 b7 b8 b9 b10 b11 b12 g6 hq => ⟨sp_6, sp_6, sp_6, sp_6, H _ _ _ _ _ _ _ _ _ _ _ _ _ _⟩)
end
end
section
section
variable {f : Int64} {a1 a2 a3 a4 a5 a6 a7 a8 : Nat → Int32} {a9 a10 : Nat → Int64} {a11 a12 a13 : Nat → Int32}
theorem sp_311 {mc ms kc ks c : Nat} {x0 x2 x3 x11 x12 x13 z kk v : Int32} (hc : c < 36) (K : sp_K c kk v a1 a2 a3 a6 a11 a12)
    (h : (x3 = 0 ∧ (x0 < 0 ∨ 36 ≤ x0)) ∨ (x3 = 1 ∧ x0 = nI c ∧ x13 = 0 ∧ ¬ ∃ m, sp_bm x2 m) ∨ (x3 = 1 ∧ x0 = nI c ∧ x13 = 1 ∧ ∃ m, sp_bm x2 m ∧ x11 = nI (m / 36) ∧ x12 = nI (m % 36))) :
    wL_lawOf_311 (fun r _ => r = 1) mc ms x0 x2 x3 x11 x12 x13 z z kc ks f a1 a2 a3 a4 a5 a6 a7 a8 a9 a10 a11 a12 a13 := by
  unfold wL_lawOf_311
  refine br_t rfl ?_
  rcases h with ⟨h3, h0⟩ | ⟨h3, h0, h13, hb⟩ | ⟨h3, h0, h13, m, hb, e1, e2⟩
  · exact sp_su0 h0 ⟨sp_6, sp_6, sp_6, sp_6, nm_e (br_t h3 (br_t rfl rfl))⟩
  · rw [h0]
    exact sp_su2 hc hb ⟨sp_6, sp_6, sp_6, sp_6, nm_e (br_f (by rw [h3]; decide) (br_t h13 (br_t rfl rfl)))⟩
  · rw [h0, e1, e2]
    exact sp_su1 hc hb K.1 K.2.1 (fun _ _ _ _ _ _ _ _ _ _ _ _ _ _ => ⟨sp_6, sp_6, sp_6, sp_6, nm_e (br_f (by rw [h3]; decide) (br_f (by rw [h13]; decide) (br_t rfl rfl)))⟩)
/-- what the law knows of cell and number: no cell; a cell, but no number that fits; both -/
def sp_R (c : Nat) (x0 x1 x3 x5 v : Int32) : Prop := (x3 = 0 ∧ x5 = 0 ∧ v = 0 ∧ (x0 < 0 ∨ 36 ≤ x0)) ∨ (x3 = 1 ∧ x5 = 0 ∧ v = 0 ∧ x0 = nI c) ∨ (x3 = 1 ∧ x5 = 1 ∧ v = x1 ∧ x0 = nI c)
theorem sp_R3 {c : Nat} {x0 x1 x3 x5 v : Int32} (h : sp_R c x0 x1 x3 x5 v) : (x3 = 0 ∧ (x0 < 0 ∨ 36 ≤ x0)) ∨ (x3 = 1 ∧ x0 = nI c) := by
  rcases h with h | h | h
  · exact Or.inl ⟨h.1, h.2.2.2⟩
  · exact Or.inr ⟨h.1, h.2.2.2⟩
  · exact Or.inr ⟨h.1, h.2.2.2⟩
theorem sp_289n {mc ms kc ks c : Nat} {x0 x1 x2 x3 x5 x11 x12 kk v : Int32} (hc : c < 36) (K : sp_K c kk v a1 a2 a3 a6 a11 a12) (R : sp_R c x0 x1 x3 x5 v) (hb : ¬ ∃ m, sp_bm x2 m) :
    wL_lawOf_289 (fun r _ => r = 1) mc ms x0 x1 x2 x3 x11 x12 0 0 kc ks f a1 a2 a3 a4 a5 a6 a7 a8 a9 a10 a11 a12 a13 := by
  unfold wL_lawOf_289
  refine sp_tl K.2.2.2.2 (fun _ => br_t rfl (sp_311 hc K ?_)) (fun m hm => absurd ⟨m, hm⟩ hb)
  rcases sp_R3 R with h | h
  · exact Or.inl h
  · exact Or.inr (Or.inl ⟨h.1, h.2, rfl, hb⟩)
theorem sp_289b {mc ms kc ks c m : Nat} {x0 x1 x2 x3 x5 z0 kk v : Int32} (hc : c < 36) (K : sp_K c kk v a1 a2 a3 a6 a11 a12) (R : sp_R c x0 x1 x3 x5 v) (hb : sp_bm x2 m)
    (hz : (sp_hit (m / 36) (m % 36) c → (z0 = 0 ∧ v = 0) ∨ (z0 = 1 ∧ v = x1)) ∧ (¬ sp_hit (m / 36) (m % 36) c → z0 = 0)) :
    wL_lawOf_289 (fun r _ => r = 1) mc ms x0 x1 x2 x3 (nI (m / 36)) (nI (m % 36)) 1 z0 kc ks f a1 a2 a3 a4 a5 a6 a7 a8 a9 a10 a11 a12 a13 := by
  have hs : (x3 = 0 ∧ (x0 < 0 ∨ 36 ≤ x0)) ∨ (x3 = 1 ∧ x0 = nI c ∧ (1 : Int32) = 0 ∧ ¬ ∃ m, sp_bm x2 m) ∨ (x3 = 1 ∧ x0 = nI c ∧ (1 : Int32) = 1 ∧ ∃ m', sp_bm x2 m' ∧ nI (m / 36) = nI (m' / 36) ∧ nI (m % 36) = nI (m' % 36)) := by
    rcases sp_R3 R with h | h
    · exact Or.inl h
    · exact Or.inr (Or.inr ⟨h.1, h.2, rfl, m, hb, rfl, rfl⟩)
  unfold wL_lawOf_289
  refine sp_tl K.2.2.2.2 (fun h => absurd ⟨m, hb⟩ h) (fun m' hm => ?_)
  have e : m = m' := by
    have hm' := hm
    rw [hb.2.1] at hm'
    exact sp_bmj (by have := hb.1; omega) hm'
  rw [← e]
  refine ⟨fun hh => ?_, fun hh => br_t (hz.2 hh) (sp_311 hc K hs)⟩
  rcases hz.1 hh with ⟨z, ev⟩ | ⟨z, ev⟩
  · refine br_t z ?_
    rw [ev]
    rw [ev] at K
    exact sp_311 hc K hs
  · refine br_f (by rw [z]; decide) ?_
    rw [ev]
    rw [ev] at K
    exact sp_311 hc K hs
theorem sp_224 {mc ms kc ks c m : Nat} {x0 x1 x2 x3 x5 kk v : Int32} (hc : c < 36) (K : sp_K c kk v a1 a2 a3 a6 a11 a12) (R : sp_R c x0 x1 x3 x5 v) (hb : sp_bm x2 m) :
    wL_lawOf_224 (fun r _ => r = 1) mc ms x0 x1 x2 x3 x5 (nI (m / 36)) (nI (m % 36)) 1 kc ks f a1 a2 a3 a4 a5 a6 a7 a8 a9 a10 a11 a12 a13 := by
  obtain ⟨hp, hq, _, _⟩ := hb.2.2
  unfold wL_lawOf_224
  refine br_f (by decide) ?_
  have N : (sp_hit (m / 36) (m % 36) c → v = 0) → wL_lawOf_288 (fun r _ => r = 1) mc ms x0 x1 x2 x3 (nI (m / 36)) (nI (m % 36)) 1 kc ks f a1 a2 a3 a4 a5 a6 a7 a8 a9 a10 a11 a12 a13 := by
    intro hn
    unfold wL_lawOf_288
    exact sp_289b hc K R hb ⟨fun hh => Or.inl ⟨rfl, hn hh⟩, fun _ => rfl⟩
  have R' := R
  rcases R' with ⟨_, h5, ev, _⟩ | ⟨_, h5, ev, _⟩ | ⟨_, h5, ev, h0⟩
  · exact br_t h5 (N (fun _ => ev))
  · exact br_t h5 (N (fun _ => ev))
  · refine br_f (by rw [h5]; decide) ?_
    have Y : sp_hit (m / 36) (m % 36) c → wL_lawOf_289 (fun r _ => r = 1) mc ms x0 x1 x2 x3 (nI (m / 36)) (nI (m % 36)) 1 1 kc ks f a1 a2 a3 a4 a5 a6 a7 a8 a9 a10 a11 a12 a13 :=
      fun hh => sp_289b hc K R hb ⟨fun _ => Or.inr ⟨rfl, ev⟩, fun h => absurd hh h⟩
    clear R
    subst h0
    refine ⟨sp_6, sp_6, pk_lt (c / 6) (m / 36 / 6) (fun z => N (fun hh => absurd hh.1 (by omega))) (fun z1 => ⟨sp_6, sp_6, ?_⟩) (sp_d6 hc) (sp_d6 hp)⟩
    refine pk_lt (m % 36 / 6) (c / 6) (fun z => N (fun hh => absurd hh.2.1 (by omega))) (fun z2 => ⟨sp_6, sp_6, ?_⟩) (sp_d6 hq) (sp_d6 hc)
    refine pk_lt (c % 6) (m / 36 % 6) (fun z => N (fun hh => absurd hh.2.2.1 (by omega))) (fun z3 => ⟨sp_6, sp_6, ?_⟩) (sp_r6 hc) (sp_r6 hp)
    exact pk_lt (m % 36 % 6) (c % 6) (fun z => N (fun hh => absurd hh.2.2.2 (by omega))) (fun z4 => Y ⟨z1, z2, z3, z4⟩) (sp_r6 hq) (sp_r6 hc)
theorem sp_165 {mc ms kc ks c : Nat} {x0 x1 x2 x3 x5 z kk v : Int32} (hc : c < 36) (K : sp_K c kk v a1 a2 a3 a6 a11 a12) (R : sp_R c x0 x1 x3 x5 v) :
    wL_lawOf_165 (fun r _ => r = 1) mc ms x0 x1 x2 x3 x5 z z kc ks f a1 a2 a3 a4 a5 a6 a7 a8 a9 a10 a11 a12 a13 := by
  have N : ∀ x11 x12, (¬ ∃ m, sp_bm x2 m) → wL_lawOf_223 (fun r _ => r = 1) mc ms x0 x1 x2 x3 x5 x11 x12 kc ks f a1 a2 a3 a4 a5 a6 a7 a8 a9 a10 a11 a12 a13 := by
    intro x11 x12 hb
    unfold wL_lawOf_223 wL_lawOf_224 wL_lawOf_288
    exact br_t rfl (sp_289n hc K R hb)
  unfold wL_lawOf_165
  refine br_t rfl ?_
  rcases sp_ri x2 with h | ⟨j, h1, h2, hx⟩ | ⟨m, hm, hx⟩
  · refine ⟨sp_36, nm_e ⟨sp_36, nm_e (br_t h (N _ _ (fun ⟨m, hb⟩ => ?_)))⟩⟩
    rw [hb.2.1] at h
    exact absurd h (nI_pos (by have := hb.1; omega))
  · refine ⟨sp_36, nm_e ⟨sp_36, nm_e (br_f (by rw [hx]; exact nI_pos h2) (br_t (by rw [hx]; exact nI_lt (a := 1295) (b := j) (by omega) h2) (N _ _ (fun ⟨m, hb⟩ => ?_))))⟩⟩
    rw [hx] at hb
    have := sp_bmj h2 hb
    have := hb.1
    omega
  · have hj : m < 2 ^ 31 := by omega
    have M : ∀ (p : ¬ (m / 36 / 6 ≤ m % 36 / 6 ∧ m / 36 % 6 ≤ m % 36 % 6)), ¬ ∃ m', sp_bm x2 m' := by
      intro p ⟨m', hb⟩
      rw [hx] at hb
      have e := sp_bmj hj hb
      rw [← e] at hb
      exact p hb.2.2.2.2
    refine ⟨sp_36, nm_r (e' := nI (m / 36)) (by rw [hx, sp_d36 hj]) ⟨sp_36, nm_r (e' := nI (m % 36)) (by rw [hx, sp_r36 hj]) (br_f (by rw [hx]; exact nI_pos hj) (br_f (by rw [hx]; exact nI_nlt (a := 1295) (b := m) (by omega) (by omega)) ⟨sp_6, sp_6, ?_⟩))⟩⟩
    exact pk_lt (m % 36 / 6) (m / 36 / 6) (fun z => N _ _ (M (by omega))) (fun z => ⟨sp_6, sp_6, pk_lt (m % 36 % 6) (m / 36 % 6) (fun z' => N _ _ (M (by omega))) (fun z' => sp_224 hc K R (by rw [hx]; exact sp_bmc hm z z')) (sp_r6 (by omega)) (sp_r6 (by omega))⟩) (sp_d6 (by omega)) (sp_d6 (by omega))
/-! the three cases -/
theorem sp_92A {mc ms kc ks c : Nat} {x0 x1 x2 x4 z : Int32} (hc : c < 36) (K : sp_K c 0 0 a1 a2 a3 a6 a11 a12) (h : x0 < 0 ∨ 36 ≤ x0) : wL_lawOf_92 (fun r _ => r = 1) mc ms x0 x1 x2 0 x4 0 z z kc ks f a1 a2 a3 a4 a5 a6 a7 a8 a9 a10 a11 a12 a13 := by
  unfold wL_lawOf_92
  refine br_t rfl (sp_ki0 h (sp_st0 h (br_t rfl ?_)))
  unfold wL_lawOf_133
  exact br_t rfl (br_t rfl (sp_va0 h (br_t rfl (sp_165 hc K (Or.inl ⟨rfl, rfl, rfl, h⟩)))))
theorem sp_92B {mc ms kc ks c : Nat} {x1 x2 z : Int32} (hc : c < 36) (K : sp_K c 0 0 a1 a2 a3 a6 a11 a12) : wL_lawOf_92 (fun r _ => r = 1) mc ms (nI c) x1 x2 1 0 0 z z kc ks f a1 a2 a3 a4 a5 a6 a7 a8 a9 a10 a11 a12 a13 := by
  unfold wL_lawOf_92
  refine br_t rfl (sp_ki1 hc K.2.2.1 (sp_st1 hc K.2.2.2.1 (br_f (by decide) (br_t rfl ?_))))
  unfold wL_lawOf_133
  exact br_t rfl (br_t rfl (sp_va1 hc (y := 0) (by rw [K.2.2.2.2 c hc, if_pos rfl]) (br_t rfl (sp_165 hc K (Or.inr (Or.inl ⟨rfl, rfl, rfl, rfl⟩))))))
theorem sp_92C {mc ms kc ks c : Nat} {x1 x2 z : Int32} (hc : c < 36) (K : sp_K c 1 x1 a1 a2 a3 a6 a11 a12) : wL_lawOf_92 (fun r _ => r = 1) mc ms (nI c) x1 x2 1 1 1 z z kc ks f a1 a2 a3 a4 a5 a6 a7 a8 a9 a10 a11 a12 a13 := by
  unfold wL_lawOf_92
  refine br_t rfl (sp_ki1 hc K.2.2.1 (sp_st1 hc K.2.2.2.1 (br_f (by decide) (br_f (by decide) ?_))))
  unfold wL_lawOf_133
  exact br_t rfl (br_t rfl (sp_va1 hc (y := x1) (by rw [K.2.2.2.2 c hc, if_pos rfl]) (br_f (by decide) (sp_165 hc K (Or.inr (Or.inr ⟨rfl, rfl, rfl, rfl⟩))))))
theorem sp_51A {x0 x1 x2 x4 : Int32} (h : x0 < 0 ∨ 36 ≤ x0) : wL_lawOf_51 (fun r _ => r = 1) 14 482 x0 x1 x2 0 x4 0 0 0 := by
  unfold wL_lawOf_51
  refine ⟨by omega, by omega, 13, 468, by omega, by omega, sp_in (fun b5 b6 h6 => ?_)⟩
  dsimp only
  refine sp_nu1 h ?_
  exact br_t rfl (sp_92A (c := 0) (by omega) (sp_K0 h6) h)
theorem sp_51B {c : Nat} {x1 x2 : Int32} (hc : c < 36) (h : x1 < -1000 ∨ ¬ x1 ≤ 1000) : wL_lawOf_51 (fun r _ => r = 1) 14 482 (nI c) x1 x2 1 0 0 0 0 := by
  unfold wL_lawOf_51
  refine ⟨by omega, by omega, 13, 468, by omega, by omega, sp_in (fun b5 b6 h6 => ?_)⟩
  dsimp only
  refine sp_nu2 hc h ?_
  exact br_f (by decide) (br_t rfl (sp_92B hc (sp_K0 h6)))
theorem sp_51C {c : Nat} {x1 x2 : Int32} (hc : c < 36) (h1 : ¬ x1 < -1000) (h2 : x1 ≤ 1000) : wL_lawOf_51 (fun r _ => r = 1) 14 482 (nI c) x1 x2 1 1 1 0 0 := by
  unfold wL_lawOf_51
  refine ⟨by omega, by omega, 13, 468, by omega, by omega, sp_in (fun b5 b6 h6 => ?_)⟩
  dsimp only
  refine sp_nu hc h6 h1 h2 (fun f a1 a2 a3 a4 a5 a6 a7 a8 a9 a10 a11 a12 a13 K => ?_)
  exact br_f (by decide) (br_f (by decide) (sp_92C hc K))
theorem sp_15A {x0 x1 x2 : Int32} (h : x0 < 0 ∨ 36 ≤ x0) : wL_lawOf_15 (fun r _ => r = 1) 14 482 x0 x1 x2 0 0 0 := by
  unfold wL_lawOf_15 wL_lawOf_34 wL_lawOf_35 wL_lawOf_50
  exact br_c (fun _ => br_t rfl (sp_51A h)) (fun _ => br_c (fun _ => br_t rfl (sp_51A h)) (fun _ => br_t rfl (sp_51A h)))
theorem sp_15B {c : Nat} {x1 x2 : Int32} (hc : c < 36) : wL_lawOf_15 (fun r _ => r = 1) 14 482 (nI c) x1 x2 1 0 0 := by
  unfold wL_lawOf_15 wL_lawOf_34 wL_lawOf_35 wL_lawOf_50
  refine br_c (fun h => br_f (by decide) (br_t rfl (sp_51B hc (Or.inl h)))) (fun h => br_c (fun g => br_f (by decide) (br_t rfl (sp_51B hc (Or.inr (Int32.not_le.mpr g))))) (fun g => br_f (by decide) (br_f (by decide) (sp_51C hc h (Int32.not_lt.mp g)))))
theorem sp_law (x0 x1 x2 : Int32) : wpL_lawOf (fun r _ => r = 1) 14 482 () x0 x1 x2 := by
  unfold wpL_lawOf wL_lawOf_14
  rcases pk_ix x0 (n := 36) (by omega) with h | h | ⟨c, hc, rfl⟩
  · exact br_t h (sp_15A (Or.inl h))
  · exact br_c (fun g => sp_15A (Or.inl g)) (fun _ => br_t (sp_35 h) (sp_15A (Or.inr h)))
  · exact br_f (nI_pos (by omega)) (br_f (nI_nlt (a := 35) (b := c) (by omega) (by omega)) (sp_15B hc))
theorem sp_ca {post : Int32 → Prop} {L : Nat} {xs : Nat → Int32} (hL : L ≤ 3) (j : Nat) (hj : j < 3) (H : ∀ r, post r) : wpL_cellAt post L xs () (nI j) :=
  pk_le L j (fun _ => H _) (fun z => ⟨pk_in j L z rfl (by omega), H _⟩)
end
theorem i_vc (xs : Nat → Int32) (L : Nat) (hL : L ≤ 3) : wpL_law (fun r => r = 1) L xs := by
  unfold wpL_law
  exact sp_ca hL 0 (by omega) (fun r1 => sp_ca hL 1 (by omega) (fun r2 => sp_ca hL 2 (by omega) (fun r3 => ⟨14, 482, by omega, by omega, sp_law r1 r2 r3⟩)))
end
