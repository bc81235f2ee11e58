section
/-! pure rows: numbers, the pictures -/
theorem tm_ix (c p x : Nat) : nI c * nI p + nI x = nI (c * p + x) := by rw [pk_mul, nI_add]
theorem tm_b : ∀ m, m < 128 → (nI m).toInt8.toInt32 = nI m := by decide +kernel
theorem tm_sh : ∀ x, x < 12 → (1 : Int32) <<< ((nI x - nI 1 + 1) &&& 31) = nI (2 ^ x) := by decide +kernel
theorem tm_or0 (v : Int32) : nI 0 ||| v = v := Int32.zero_or
theorem tm_bit : ∀ A, A < 12 → ∀ i, i < 12 → (nI (2 ^ A) >>> (nI i &&& 31)) &&& 1 = nI (if i = A then 1 else 0) := by decide +kernel
theorem tm_bit0 : ∀ i, i < 12 → (nI 0 >>> (nI i &&& 31)) &&& 1 = nI 0 := by decide +kernel
/-- the occurrences in row y once the places ahead of t (row by row, 12 to a row) have been read: the one letter 1 stands at column A of row B -/
def tm_f (A B t y : Nat) : Nat := if y = B ∧ 12 * B + A < t then 2 ^ A else 0
/-- the text: letters 0, 1, 2; the letter 1 stands at 12 * B + A alone (B = 12: nowhere) -/
def tm_T (A B : Nat) (a : Nat → Int32) : Prop := ∀ j, j < 144 → ∃ c, c < 3 ∧ a j = nI c ∧ (c = 1 ↔ j = 12 * B + A)
/-- the patterns: three of one cell, its letter 1 -/
def tm_P (a2 a3 a4 : Nat → Int32) : Prop := ∀ p, p < 3 → a2 p = nI 1 ∧ a3 p = nI 1 ∧ a4 (16 * p) = nI 1
/-- the occurrences found, pattern p having read the places ahead of t p -/
def tm_F (A B : Nat) (t : Nat → Nat) (a : Nat → Int32) : Prop := ∀ p, p < 3 → ∀ y, y < 12 → a (12 * p + y) = nI (tm_f A B (t p) y)
/-- the automaton: branches, row endings, row numbers -/
def tm_A (b5 b8 b9 : Nat → Int32) : Prop := (∀ k, k < 2 → ∀ c, c < 3 → b5 (3 * k + c) = nI (if c = 1 then 1 else 0)) ∧ (∀ p, p < 3 → b8 (49 * p) = -1 ∧ b8 (49 * p + 1) = nI 0 ∧ b9 (4 * p) = nI 0)
/-- the progress: 0 or 1 -/
def tm_G (a : Nat → Int32) : Prop := ∀ j, j < 36 → ∃ m, m ≤ 1 ∧ a j = nI m
theorem tm_f_eq {A B t t' y : Nat} (h : (y = B ∧ 12 * B + A < t) ↔ (y = B ∧ 12 * B + A < t')) : tm_f A B t y = tm_f A B t' y := by
  unfold tm_f
  by_cases hc : y = B ∧ 12 * B + A < t
  · rw [if_pos hc, if_pos (h.mp hc)]
  · rw [if_neg hc, if_neg (fun z => hc (h.mpr z))]
theorem tm_F_eq {A B : Nat} {t t' : Nat → Nat} {a : Nat → Int32} (hF : tm_F A B t a) (h : ∀ p, p < 3 → ∀ y, y < 12 → ((y = B ∧ 12 * B + A < t p) ↔ (y = B ∧ 12 * B + A < t' p))) : tm_F A B t' a := by
  intro p hp y hy
  rw [hF p hp y hy, tm_f_eq (h p hp y hy)]
theorem tm_F_miss {A B p y x : Nat} {a : Nat → Int32} (hF : tm_F A B (fun q => if q < p then 12 * y + x + 1 else 12 * y + x) a) (hn : ¬ 12 * y + x = 12 * B + A) : tm_F A B (fun q => if q < p + 1 then 12 * y + x + 1 else 12 * y + x) a := by
  refine tm_F_eq hF (fun q hq z hz => ?_)
  try dsimp only
  by_cases h1 : q < p
  · rw [if_pos h1, if_pos (by omega)]
  · rw [if_neg h1]
    by_cases h2 : q < p + 1
    · rw [if_pos h2]
      omega
    · rw [if_neg h2]
theorem tm_F_hit {A B p y x : Nat} {a : Nat → Int32} (hA : A < 12) (hx : x < 12) (hy : y < 12) (hp : p < 3) (hF : tm_F A B (fun q => if q < p then 12 * y + x + 1 else 12 * y + x) a) (hn : 12 * y + x = 12 * B + A) : tm_F A B (fun q => if q < p + 1 then 12 * y + x + 1 else 12 * y + x) (upd a (12 * p + y) (a (12 * p + y) ||| nI (2 ^ x))) := by
  have ex : x = A := by omega
  have ey : y = B := by omega
  intro q hq z hz
  try dsimp only
  by_cases h1 : q = p
  · subst h1
    rw [if_pos (Nat.lt_succ_self q)]
    by_cases h2 : z = y
    · rw [h2, pk_us, hF q hq y hy]
      try dsimp only
      rw [if_neg (Nat.lt_irrefl q)]
      unfold tm_f
      rw [if_neg (by omega), if_pos (by omega), tm_or0, ex]
    · rw [pk_un (by omega), hF q hq z hz]
      try dsimp only
      unfold tm_f
      rw [if_neg (by omega), if_neg (by omega)]
  · rw [pk_un (by omega), hF q hq z hz]
    try dsimp only
    by_cases h2 : q < p
    · rw [if_pos h2, if_pos (by omega)]
    · rw [if_neg h2, if_neg (by omega)]
theorem tm_G_put {a : Nat → Int32} {k m : Nat} (h : tm_G a) (hm : m ≤ 1) : tm_G (upd a k (nI m)) := by
  intro j hj
  by_cases e : j = k
  · rw [e, pk_us]
    exact ⟨m, hm, rfl⟩
  · rw [pk_un e]
    exact h j hj
end
section
/-! one row of the text: advance, searchRow -/
section
variable {post : St2 → Prop} {w h nc se : Int32} {a1 a2 a3 a4 a5 a6 a7 a8 a9 a10 a11 a12 : Nat → Int32}
theorem tm_adv97 {p x y m : Nat} (hp : p < 3) (hx : x < 12) (hy : y < 12) (hm : m ≤ 1) (h2 : a2 p = nI 1) (h3 : a3 p = nI 1)
    (H1 : m = 1 → post (w, h, nc, se, a1, a2, a3, a4, a5, a6, a7, a8, a9, a10, upd a11 (12 * p + y) (a11 (12 * p + y) ||| nI (2 ^ x)), upd a12 (12 * p + x) (nI m)))
    (H0 : m = 0 → post (w, h, nc, se, a1, a2, a3, a4, a5, a6, a7, a8, a9, a10, a11, upd a12 (12 * p + x) (nI m))) :
    wX_advance_97 post (nI p) (nI x) (nI y) (nI (12 * p + x)) (nI m) w h nc se a1 a2 a3 a4 a5 a6 a7 a8 a9 a10 a11 a12 := by
  unfold wX_advance_97
  rw [nI_clamp (show 12 * p + x < 2 ^ 31 by omega), nI_clamp (show p < 2 ^ 31 by omega), h2, h3, tm_sh x hx, tm_b m (by omega)]
  refine ⟨pk_in (12 * p + x) 36 (by omega), nm_e ⟨pk_in p 3 hp, ?_⟩⟩
  refine pk_eq m 1 (fun z => ?_) (fun z => H0 (by omega))
  have e : (12 : Int32) * nI p + nI y - nI m + 1 = nI (12 * p + y) := by
    rw [z]
    show nI 12 * nI p + nI y - nI 1 + nI 1 = _
    rw [Int32.sub_add_cancel, tm_ix]
  rw [e, nI_clamp (show 12 * p + y < 2 ^ 31 by omega)]
  exact ⟨pk_in (12 * p + y) 36 (by omega), pk_in p 3 hp, pk_in (12 * p + y) 36 (by omega), nm_e (H1 z)⟩
theorem tm_adv41 {p x y : Nat} {r : Int32} (hp : p < 3) (hx : x < 12) (hy : y < 12) (h2 : a2 p = nI 1) (h3 : a3 p = nI 1) (h9 : a9 (4 * p) = nI 0)
    (H1 : r = nI 0 → post (w, h, nc, se, a1, a2, a3, a4, a5, a6, a7, a8, a9, a10, upd a11 (12 * p + y) (a11 (12 * p + y) ||| nI (2 ^ x)), upd a12 (12 * p + x) (nI 1)))
    (H0 : ¬ r = nI 0 → post (w, h, nc, se, a1, a2, a3, a4, a5, a6, a7, a8, a9, a10, a11, upd a12 (12 * p + x) (nI 0))) :
    ∃ n, wX_advance_41 post (nI p) (nI x) (nI y) r (nI (12 * p + x)) w h nc se a1 a2 a3 a4 a5 a6 a7 a8 a9 a10 a11 a12 n (nI 0) := by
  refine ⟨1, br_t (by decide) ?_⟩
  unfold wX_advance_78
  have e : (4 : Int32) * nI p + nI 0 = nI (4 * p) := tm_ix 4 p 0
  rw [e, nI_clamp (show 4 * p < 2 ^ 31 by omega), h9]
  refine ⟨pk_in (4 * p) 12 (by omega), br_c (fun z => nm_r (nI_1 0) ?_) (fun z => ?_)⟩
  · exact tm_adv97 (m := 1) hp hx hy (by omega) h2 h3 (fun _ => H1 z.symm) (fun t => absurd t (by omega))
  · exact tm_adv97 (m := 0) hp hx hy (by omega) h2 h3 (fun t => absurd t (by omega)) (fun _ => H0 (fun t => z t.symm))
theorem tm_adv {p x y m : Nat} {r : Int32} (hp : p < 3) (hx : x < 12) (hy : y < 12) (h2 : a2 p = nI 1) (h3 : a3 p = nI 1) (h9 : a9 (4 * p) = nI 0) (h10 : a10 (5 * p + 1) = nI 0) (hm : m ≤ 1) (h12 : a12 (12 * p + x) = nI m)
    (H1 : r = nI 0 → post (w, h, nc, se, a1, a2, a3, a4, a5, a6, a7, a8, a9, a10, upd a11 (12 * p + y) (a11 (12 * p + y) ||| nI (2 ^ x)), upd a12 (12 * p + x) (nI 1)))
    (H0 : ¬ r = nI 0 → post (w, h, nc, se, a1, a2, a3, a4, a5, a6, a7, a8, a9, a10, a11, upd a12 (12 * p + x) (nI 0))) :
    wpX_advance post (w, h, nc, se, a1, a2, a3, a4, a5, a6, a7, a8, a9, a10, a11, a12) (nI p) (nI x) (nI y) r := by
  unfold wpX_advance
  try dsimp only
  refine nm_r (tm_ix 12 p x) ⟨pk_in (12 * p + x) 36 (by omega), nm_r ((congrArg a12 (nI_clamp (show 12 * p + x < 2 ^ 31 by omega))).trans h12) ⟨pk_in p 3 hp, ?_⟩⟩
  rw [nI_clamp (show p < 2 ^ 31 by omega), h3]
  refine pk_eq m 1 (fun z => ?_) (fun z => ?_)
  · subst z
    have e : (5 : Int32) * nI p + nI 1 = nI (5 * p + 1) := tm_ix 5 p 1
    rw [e, nI_clamp (show 5 * p + 1 < 2 ^ 31 by omega)]
    exact ⟨pk_in (5 * p + 1) 15 (by omega), nm_r h10 (tm_adv41 hp hx hy h2 h3 h9 H1 H0)⟩
  · have e : m = 0 := by omega
    subst e
    exact tm_adv41 hp hx hy h2 h3 h9 H1 H0
theorem tm_row36 {J : Int32 → Int32 → Int32 → Int32 → Int32 → Int32 → (Nat → Int32) → (Nat → Int32) → (Nat → Int32) → (Nat → Int32) → (Nat → Int32) → (Nat → Int32) → (Nat → Int32) → (Nat → Int32) → (Nat → Int32) → (Nat → Int32) → (Nat → Int32) → (Nat → Int32) → Prop}
    {A B x y k : Nat} (hA : A < 12) (hx : x < 12) (hy : y < 12) (hk : k < 2) (hk1 : k = 1 ↔ 12 * y + x = 12 * B + A) (hP : tm_P a2 a3 a4) (hU : tm_A a5 a8 a9) (h10 : ∀ p, p < 3 → a10 (5 * p + 1) = nI 0)
    (hF : tm_F A B (fun _ => 12 * y + x) a11) (hG : tm_G a12)
    (H : ∀ b11 b12, tm_F A B (fun _ => 12 * y + x + 1) b11 → tm_G b12 → J (nI k) (nI (x + 1)) w h nc se a1 a2 a3 a4 a5 a6 a7 a8 a9 a10 b11 b12) :
    ∃ n, wX_searchRow_36 post J (nI y) (nI k) (nI x) n 0 w h nc se a1 a2 a3 a4 a5 a6 a7 a8 a9 a10 a11 a12 :=
  pk_loop (fun n i s => wX_searchRow_36 post J (nI y) (nI k) (nI x) n (nI i) w h nc se a1 a2 a3 a4 a5 a6 a7 a8 a9 a10 s.1 s.2)
    (fun i (s : (Nat → Int32) × (Nat → Int32)) => tm_F A B (fun q => if q < i then 12 * y + x + 1 else 12 * y + x) s.1 ∧ tm_G s.2) 3 0 (a11, a12) (by omega)
    ⟨tm_F_eq hF (fun p hp z hz => by (try dsimp only); rw [if_neg (Nat.not_lt_zero p)]), hG⟩
    (fun n s hs => pk_le 3 3 (fun _ => nm_r (nI_1 x) (H s.1 s.2 (tm_F_eq hs.1 (fun p hp z hz => by (try dsimp only); rw [if_pos hp])) hs.2)) (fun z => absurd z (by omega)))
    (fun n i s hi hs hw => by
      have e : (49 : Int32) * nI i + nI k = nI (49 * i + k) := tm_ix 49 i k
      obtain ⟨hF', hG'⟩ := hs
      obtain ⟨h2, h3, h4⟩ := hP i hi
      obtain ⟨u8, u8', u9⟩ := hU.2 i hi
      obtain ⟨m, hm, h12⟩ := hG' (12 * i + x) (by omega)
      refine pk_le 3 i (fun z => absurd z (by omega)) (fun _ => ⟨pk_in (49 * i + k) 147 (by omega) e, ?_⟩)
      rw [e, nI_clamp (show 49 * i + k < 2 ^ 31 by omega)]
      refine tm_adv (m := m) hi hx hy h2 h3 u9 (h10 i hi) hm h12 (fun hr => nm_r (nI_1 i) (hw (_, _) ⟨?_, tm_G_put hG' (by omega)⟩)) (fun hr => nm_r (nI_1 i) (hw (_, _) ⟨?_, tm_G_put hG' (by omega)⟩))
      · have k1 : k = 1 := by
          rcases (show k = 0 ∨ k = 1 by omega) with z | z
          · rw [z] at hr
            exact absurd (u8.symm.trans hr) (by decide)
          · exact z
        exact tm_F_hit hA hx hy hi hF' (hk1.mp k1)
      · have k0 : ¬ k = 1 := fun z => by
          rw [z] at hr
          exact hr u8'
        exact tm_F_miss hF' (fun z => k0 (hk1.mpr z)))
theorem tm_row {A B W y : Nat} (hW : W ≤ 12) (hA : A < 12) (hy : y < 12) (hT : tm_T A B a1) (hP : tm_P a2 a3 a4) (hU : tm_A a5 a8 a9) (h10 : ∀ p, p < 3 → a10 (5 * p + 1) = nI 0)
    (hF : tm_F A B (fun _ => 12 * y) a11) (hG : tm_G a12)
    (H : ∀ b11 b12, tm_F A B (fun _ => 12 * y + W) b11 → tm_G b12 → post (nI W, h, nc, se, a1, a2, a3, a4, a5, a6, a7, a8, a9, a10, b11, b12)) :
    wpX_searchRow post (nI W, h, nc, se, a1, a2, a3, a4, a5, a6, a7, a8, a9, a10, a11, a12) (nI y) := by
  unfold wpX_searchRow
  try dsimp only
  refine pk_loop (fun n i s => wX_searchRow_4 post (nI y) n (nI s.1) (nI i) (nI W) h nc se a1 a2 a3 a4 a5 a6 a7 a8 a9 a10 s.2.1 s.2.2)
    (fun i (s : Nat × (Nat → Int32) × (Nat → Int32)) => s.1 < 2 ∧ tm_F A B (fun _ => 12 * y + i) s.2.1 ∧ tm_G s.2.2) W 0 (0, a11, a12) (by omega)
    ⟨Nat.zero_lt_two, hF, hG⟩
    (fun n s hs => pk_le W W (fun _ => H s.2.1 s.2.2 hs.2.1 hs.2.2) (fun z => absurd z (by omega)))
    (fun n x s hx hs hw => ?_)
  obtain ⟨hk, hF', hG'⟩ := hs
  obtain ⟨c, hc, hac, hc1⟩ := hT (12 * y + x) (by omega)
  have e : (12 : Int32) * nI y + nI x = nI (12 * y + x) := tm_ix 12 y x
  have e3 : (3 : Int32) * nI s.1 + nI c = nI (3 * s.1 + c) := tm_ix 3 s.1 c
  refine pk_le W x (fun z => absurd z (by omega)) (fun _ => ⟨pk_in (12 * y + x) 144 (by omega) e, ?_⟩)
  rw [e, nI_clamp (show 12 * y + x < 2 ^ 31 by omega), hac, e3, nI_clamp (show 3 * s.1 + c < 2 ^ 31 by omega)]
  refine ⟨pk_in (3 * s.1 + c) 147 (by omega), nm_r (hU.1 s.1 hk c hc) ?_⟩
  refine tm_row36 hA (by omega) hy (k := if c = 1 then 1 else 0) (by split <;> omega) ?_ hP hU h10 hF' hG' (fun b11 b12 q1 q2 => hw (_, b11, b12) ⟨?_, q1, q2⟩)
  · rw [← hc1]
    by_cases z : c = 1
    · rw [if_pos z]; exact ⟨fun _ => z, fun _ => rfl⟩
    · rw [if_neg z]; exact ⟨fun t => absurd t (by omega), fun t => absurd t z⟩
  · show (if c = 1 then 1 else 0) < 2
    split <;> omega
end
end
section
/-! the automaton of rows: addRow, linkNodes, buildAutomaton -/
section
variable {post : St2 → Prop} {w h nc se : Int32} {a1 a2 a3 a4 a5 a6 a7 a8 a9 a10 a11 a12 : Nat → Int32}
theorem tm_addX {p n : Nat} (hp : p < 3) (h2 : a2 p = nI 1) (h8 : a8 (49 * p + 1) = -1)
    (H : post (w, h, nc, se, a1, a2, a3, a4, a5, a6, a7, upd a8 (49 * p + 1) (nI 0), upd a9 (4 * p) (nI 0), a10, a11, a12)) :
    wX_addRow_5 post (nI p) (nI 0) w h se (n + 1) (nI 1) (nI 1) nc a1 a2 a3 a4 a5 a6 a7 a8 a9 a10 a11 a12 := by
  refine ⟨pk_in p 3 hp, ?_⟩
  rw [nI_clamp (show p < 2 ^ 31 by omega), h2]
  refine br_t (by decide) (nm_r (tm_ix 49 p 1) ⟨pk_in (49 * p + 1) 147 (by omega), ?_⟩)
  rw [nI_clamp (show 49 * p + 1 < 2 ^ 31 by omega), h8]
  refine br_f (by decide) ⟨pk_in (49 * p + 1) 147 (by omega), nm_r (congrArg (upd a8 (49 * p + 1)) (tm_b 0 (by decide))) ?_⟩
  unfold wX_addRow_111
  have e : (4 : Int32) * nI p + nI 0 = nI (4 * p) := tm_ix 4 p 0
  rw [e, nI_clamp (show 49 * p + 1 < 2 ^ 31 by omega), nI_clamp (show 4 * p < 2 ^ 31 by omega), pk_us, vp_nar_byte, tm_b 0 (by decide)]
  exact ⟨pk_in (49 * p + 1) 147 (by omega), pk_in (4 * p) 12 (by omega), nm_e H⟩
theorem tm_addRow {p : Nat} (hp : p < 3) (hP : tm_P a2 a3 a4) (h5 : (a5 1 = nI 0 ∧ nc = nI 1) ∨ a5 1 = nI 1) (h8 : a8 (49 * p + 1) = -1)
    (H : ∀ nc' b5, b5 1 = nI 1 → (∀ j, j ≠ 1 → b5 j = a5 j) → post (w, h, nc', se, a1, a2, a3, a4, b5, a6, a7, upd a8 (49 * p + 1) (nI 0), upd a9 (4 * p) (nI 0), a10, a11, a12)) :
    wpX_addRow post (w, h, nc, se, a1, a2, a3, a4, a5, a6, a7, a8, a9, a10, a11, a12) (nI p) (nI 0) := by
  obtain ⟨h2, h3, h4⟩ := hP p hp
  unfold wpX_addRow
  try dsimp only
  refine ⟨0 + 1 + 1, pk_in p 3 hp, ?_⟩
  have e : (16 : Int32) * nI p + 4 * nI 0 + 0 = nI (16 * p) := by
    show nI 16 * nI p + nI 4 * nI 0 + nI 0 = nI (16 * p)
    rw [pk_mul, pk_mul, nI_add, nI_add]
    exact congrArg nI (by omega)
  have c1 : (nI 1).toNatClampNeg = 1 := nI_clamp (by decide)
  rw [nI_clamp (show p < 2 ^ 31 by omega), h2, e, nI_clamp (show 16 * p < 2 ^ 31 by omega), h4]
  refine br_f (by decide) ⟨pk_in (16 * p) 48 (by omega), nm_r (show (3 : Int32) * 0 + nI 1 = nI 1 by decide) ⟨pk_in 1 147 (by decide), ?_⟩⟩
  rw [c1]
  rcases h5 with ⟨q5, qn⟩ | q5
  · rw [q5, qn]
    refine br_t rfl ⟨pk_in 1 147 (by decide), nm_r (congrArg (upd a5 1) (tm_b 1 (by decide))) (nm_e ⟨pk_in 1 147 (by decide), nm_r pk_us (nm_r (show (0 : Int32) + 1 = nI 1 by decide) ?_)⟩)⟩
    exact tm_addX hp h2 h8 (H _ _ pk_us (fun j hj => pk_un hj))
  · rw [q5]
    refine br_f (by decide) ⟨pk_in 1 147 (by decide), nm_e (nm_r (show (0 : Int32) + 1 = nI 1 by decide) ?_)⟩
    exact tm_addX hp h2 h8 (H _ _ q5 (fun j _ => rfl))
theorem tm_ba43 {J : Int32 → Int32 → Int32 → Int32 → Int32 → (Nat → Int32) → (Nat → Int32) → (Nat → Int32) → (Nat → Int32) → (Nat → Int32) → (Nat → Int32) → (Nat → Int32) → (Nat → Int32) → (Nat → Int32) → (Nat → Int32) → (Nat → Int32) → (Nat → Int32) → Prop}
    {p : Nat} (hp : p < 3) (hP : tm_P a2 a3 a4) (h5 : (a5 1 = nI 0 ∧ nc = nI 1) ∨ a5 1 = nI 1) (h8 : a8 (49 * p + 1) = -1)
    (H : ∀ nc' b5, b5 1 = nI 1 → (∀ j, j ≠ 1 → b5 j = a5 j) → J (nI (p + 1)) w h nc' se a1 a2 a3 a4 b5 a6 a7 (upd a8 (49 * p + 1) (nI 0)) (upd a9 (4 * p) (nI 0)) a10 a11 a12) :
    ∃ n, wX_buildAutomaton_43 post J (nI p) n 0 w h nc se a1 a2 a3 a4 a5 a6 a7 a8 a9 a10 a11 a12 := by
  have c : (nI p).toNatClampNeg = p := nI_clamp (by omega)
  obtain ⟨h2, h3, h4⟩ := hP p hp
  refine ⟨0 + 1 + 1, pk_in p 3 hp, ?_⟩
  rw [c, h3]
  refine br_f (by decide) (tm_addRow hp hP h5 h8 (fun nc' b5 q1 q2 => nm_r (show (0 : Int32) + 1 = nI 1 by decide) ⟨pk_in p 3 hp, ?_⟩))
  rw [c, h3]
  exact br_t (by decide) (nm_r (nI_1 p) (H nc' b5 q1 q2))
theorem tm_inh {p : Nat} (hp : p < 3) (h8 : a8 (49 * p + 1) = nI 0) (H : post (w, h, nc, se, a1, a2, a3, a4, a5, a6, a7, a8, a9, a10, a11, a12)) :
    wpX_inheritRow post (w, h, nc, se, a1, a2, a3, a4, a5, a6, a7, a8, a9, a10, a11, a12) (nI p) (nI 1) (nI 0) := by
  unfold wpX_inheritRow
  try dsimp only
  have e : (49 : Int32) * nI p + nI 1 = nI (49 * p + 1) := tm_ix 49 p 1
  rw [e, nI_clamp (show 49 * p + 1 < 2 ^ 31 by omega), h8]
  exact ⟨pk_in (49 * p + 1) 147 (by omega), br_t (by decide) H⟩
theorem tm_l103 {J : Int32 → Int32 → Int32 → Int32 → Int32 → Int32 → (Nat → Int32) → (Nat → Int32) → (Nat → Int32) → (Nat → Int32) → (Nat → Int32) → (Nat → Int32) → (Nat → Int32) → (Nat → Int32) → (Nat → Int32) → (Nat → Int32) → (Nat → Int32) → (Nat → Int32) → Prop}
    (hz : ∀ c, c < 3 → a5 c = nI (if c = 1 then 1 else 0)) (hz2 : ∀ c, c < 3 → a5 (3 + c) = nI 0)
    (H : ∀ b5, (∀ k, k < 2 → ∀ c, c < 3 → b5 (3 * k + c) = nI (if c = 1 then 1 else 0)) → J (nI 1) (nI 1) w h nc se a1 a2 a3 a4 b5 a6 a7 a8 a9 a10 a11 a12) :
    ∃ n, wX_linkNodes_103 post J 0 (nI 1) (nI 0) w h nc se n (nI 1) 0 a1 a2 a3 a4 a5 a6 a7 a8 a9 a10 a11 a12 :=
  pk_loop (fun n i s => wX_linkNodes_103 post J 0 (nI 1) (nI 0) w h nc se n (nI 1) (nI i) a1 a2 a3 a4 s a6 a7 a8 a9 a10 a11 a12)
    (fun i s => (∀ c, c < 3 → s c = nI (if c = 1 then 1 else 0)) ∧ (∀ c, c < i → s (3 + c) = nI (if c = 1 then 1 else 0)) ∧ (∀ c, i ≤ c → c < 3 → s (3 + c) = nI 0)) 3 0 a5 (by omega)
    ⟨hz, fun c hc => absurd hc (by omega), fun c _ hc => hz2 c hc⟩
    (fun n s hs => pk_le 3 3 (fun _ => nm_r (show (0 : Int32) + 1 = nI 1 by decide) (H s (fun k hk c hc => by
      rcases (show k = 0 ∨ k = 1 by omega) with z | z
      · rw [z, show 3 * 0 + c = c by omega]
        exact hs.1 c hc
      · rw [z]
        exact hs.2.1 c hc))) (fun z => absurd z (by omega)))
    (fun n i s hi hs hw => by
      obtain ⟨s1, s2, s3⟩ := hs
      have e1 : (3 : Int32) * nI 1 + nI i = nI (3 + i) := tm_ix 3 1 i
      have e0 : (3 : Int32) * nI 0 + nI i = nI i := (tm_ix 3 0 i).trans (congrArg nI (by omega))
      have b : (nI (if i = 1 then 1 else 0)).toInt8.toInt32 = nI (if i = 1 then 1 else 0) := tm_b _ (by split <;> omega)
      refine pk_le 3 i (fun z => absurd z (by omega)) (fun _ => ?_)
      rw [e1, e0, nI_clamp (show 3 + i < 2 ^ 31 by omega), nI_clamp (show i < 2 ^ 31 by omega)]
      refine ⟨pk_in (3 + i) 147 (by omega), nm_r (s3 i (by omega) hi) ⟨pk_in i 147 (by omega), nm_r (s1 i hi) (br_t rfl ⟨pk_in (3 + i) 147 (by omega), nm_r (congrArg (upd s (3 + i)) b) (nm_r (nI_1 i) (hw _ ⟨?_, ?_, ?_⟩))⟩)⟩⟩
      · intro c hc
        rw [pk_un (by omega)]
        exact s1 c hc
      · intro c hc
        by_cases z : c = i
        · rw [z, pk_us]
        · rw [pk_un (by omega)]
          exact s2 c (by omega)
      · intro c hc hc3
        rw [pk_un (by omega)]
        exact s3 c (by omega) hc3)
theorem tm_link (h1 : a5 1 = nI 1) (hz : ∀ j, j < 147 → j ≠ 1 → a5 j = nI 0) (h8 : ∀ p, p < 3 → a8 (49 * p + 1) = nI 0)
    (H : ∀ b5 b6 b7, (∀ k, k < 2 → ∀ c, c < 3 → b5 (3 * k + c) = nI (if c = 1 then 1 else 0)) → post (w, h, nc, se, a1, a2, a3, a4, b5, b6, b7, a8, a9, a10, a11, a12)) :
    wpX_linkNodes post (w, h, nc, se, a1, a2, a3, a4, a5, a6, a7, a8, a9, a10, a11, a12) := by
  have c0 : (0 : Int32).toNatClampNeg = 0 := by decide
  have c1 : (nI 1).toNatClampNeg = 1 := nI_clamp (by decide)
  have c2 : (nI 2).toNatClampNeg = 2 := nI_clamp (by decide)
  have Z : ∀ c, c < 3 → a5 c = nI (if c = 1 then 1 else 0) := by
    intro c hc
    by_cases z : c = 1
    · rw [z, if_pos rfl]
      exact h1
    · rw [if_neg z]
      exact hz c (by omega) z
  unfold wpX_linkNodes
  try dsimp only
  refine nm_e ⟨0 + 1 + 1 + 1 + 1, ?_⟩
  refine br_f (by decide) ⟨pk_in 0 147 (by decide), nm_r ((congrArg a5 c0).trans (hz 0 (by decide) (by decide))) (br_t rfl (nm_r (show (0 : Int32) + 1 = nI 1 by decide) ?_))⟩
  refine br_f (by decide) ⟨pk_in 1 147 (by decide), nm_r ((congrArg a5 c1).trans h1) (br_f (by decide) ⟨pk_in 1 49 (by decide), fun b6 e6 => ⟨pk_in 0 49 (by decide), fun b7 e7 => nm_r (show (0 : Int32) + 1 = nI 1 by decide) (nm_r (show nI 1 + 1 = nI 2 by decide) ?_)⟩⟩)⟩
  have q6 : b6 (nI 1).toNatClampNeg = nI 0 := by
    rw [e6]
    exact pk_us
  have q7 : b7 (0 : Int32).toNatClampNeg = nI 1 := by
    rw [e7]
    exact pk_us.trans (tm_b 1 (by decide))
  refine br_f (by decide) ⟨pk_in 2 147 (by decide), nm_r ((congrArg a5 c2).trans (hz 2 (by decide) (by decide))) (br_t rfl (nm_r (show nI 2 + 1 = nI 3 by decide) ?_))⟩
  refine br_t (by decide) ⟨0 + 1 + 1, ?_⟩
  refine br_f (by decide) ⟨pk_in 0 49 (by decide), nm_r q7 ⟨pk_in 1 49 (by decide), nm_r q6 ?_⟩⟩
  exact pk_loop (σ := Unit) (fun n i _ => wX_linkNodes_79 post (wX_linkNodes_56 post (0 + 1)) (nI 1) 0 (nI 1) (nI 0) n (nI i) w h nc se a1 a2 a3 a4 a5 b6 b7 a8 a9 a10 a11 a12) (fun _ _ => True) 3 0 () (by omega) trivial
    (fun n _ _ => pk_le 3 3 (fun _ => tm_l103 Z (fun c hc => hz (3 + c) (by omega) (by omega)) (fun b5 q5 => br_t (by decide) (H b5 b6 b7 q5))) (fun z => absurd z (by omega)))
    (fun n i _ hi _ hw => pk_le 3 i (fun z => absurd z (by omega)) (fun _ => tm_inh hi (h8 i hi) (nm_r (nI_1 i) (hw () trivial))))
/-- the tree of rows before pattern k is read -/
def tm_K (k : Nat) (nc : Int32) (b5 b8 b9 : Nat → Int32) : Prop :=
  ((k = 0 ∧ b5 1 = nI 0 ∧ nc = nI 1) ∨ b5 1 = nI 1) ∧ (∀ j, j < 147 → j ≠ 1 → b5 j = nI 0) ∧ (∀ p, p < 3 → b8 (49 * p) = -1 ∧ b8 (49 * p + 1) = if p < k then nI 0 else -1) ∧ (∀ p, p < k → b9 (4 * p) = nI 0)
theorem tm_ba36 (hP : tm_P a2 a3 a4) (h5 : ∀ j, j < 147 → a5 j = nI 0 ∧ a8 j = -1)
    (H : ∀ nc' b5 b6 b7 b8 b9, tm_A b5 b8 b9 → post (w, h, nc', se, a1, a2, a3, a4, b5, b6, b7, b8, b9, a10, a11, a12)) :
    ∃ n, wX_buildAutomaton_36 post n 0 w h (nI 1) se a1 a2 a3 a4 a5 a6 a7 a8 a9 a10 a11 a12 :=
  pk_loop (fun n i s => wX_buildAutomaton_36 post n (nI i) w h s.1 se a1 a2 a3 a4 s.2.1 a6 a7 s.2.2.1 s.2.2.2 a10 a11 a12)
    (fun i (s : Int32 × (Nat → Int32) × (Nat → Int32) × (Nat → Int32)) => tm_K i s.1 s.2.1 s.2.2.1 s.2.2.2) 3 0 (nI 1, a5, a8, a9) (by omega)
    ⟨Or.inl ⟨rfl, (h5 1 (by decide)).1, rfl⟩, fun j hj _ => (h5 j hj).1, fun p hp => ⟨(h5 (49 * p) (by omega)).2, by rw [if_neg (by omega)]; exact (h5 (49 * p + 1) (by omega)).2⟩, fun p hp => absurd hp (by omega)⟩
    (fun n s hs => by
      obtain ⟨k1, k2, k3, k4⟩ := hs
      have k1' : s.2.1 1 = nI 1 := k1.elim (fun z => absurd z.1 (by decide)) id
      have k3' : ∀ p, p < 3 → s.2.2.1 (49 * p + 1) = nI 0 := fun p hp => (k3 p hp).2.trans (if_pos hp)
      exact pk_le 3 3 (fun _ => tm_link k1' k2 k3' (fun b5 b6 b7 q => H _ b5 b6 b7 _ _ ⟨q, fun p hp => ⟨(k3 p hp).1, k3' p hp, k4 p hp⟩⟩)) (fun z => absurd z (by omega)))
    (fun n i s hi hs hw => by
      obtain ⟨k1, k2, k3, k4⟩ := hs
      have k3' : s.2.2.1 (49 * i + 1) = -1 := (k3 i hi).2.trans (if_neg (Nat.lt_irrefl i))
      refine pk_le 3 i (fun z => absurd z (by omega)) (fun _ => tm_ba43 hi hP (k1.imp (fun z => z.2) id) k3' (fun nc' b5 q1 q2 => hw (nc', b5, _, _) ⟨Or.inr q1, fun j hj hj1 => (q2 j hj1).trans (k2 j hj hj1), fun p hp => ⟨?_, ?_⟩, fun p hp => ?_⟩))
      · exact (pk_un (by omega)).trans (k3 p hp).1
      · by_cases z : p = i
        · rw [z, if_pos (Nat.lt_succ_self i)]
          exact pk_us
        · refine (pk_un (by omega)).trans ((k3 p hp).2.trans ?_)
          by_cases z2 : p < i
          · rw [if_pos z2, if_pos (by omega)]
          · rw [if_neg z2, if_neg (by omega)]
      · by_cases z : p = i
        · rw [z]
          exact pk_us
        · exact (pk_un (by omega)).trans (k4 p (by omega)))
theorem tm_fill2 {s1 s2 : Nat → Int32} {i : Nat} {v1 v2 x1 x2 : Int32} (hs : ∀ j, j < i → s1 j = v1 ∧ s2 j = v2) (e1 : x1 = v1) (e2 : x2 = v2) : ∀ j, j < i + 1 → upd s1 i x1 j = v1 ∧ upd s2 i x2 j = v2 := by
  intro j hj
  by_cases e : j = i
  · rw [e, pk_us, pk_us]
    exact ⟨e1, e2⟩
  · rw [pk_un e, pk_un e]
    exact hs j (by omega)
theorem tm_auto (hP : tm_P a2 a3 a4)
    (H : ∀ nc' b5 b6 b7 b8 b9, tm_A b5 b8 b9 → post (w, h, nc', se, a1, a2, a3, a4, b5, b6, b7, b8, b9, a10, a11, a12)) :
    wpX_buildAutomaton post (w, h, nc, se, a1, a2, a3, a4, a5, a6, a7, a8, a9, a10, a11, a12) := by
  unfold wpX_buildAutomaton
  try dsimp only
  refine pk_loop (fun n i s => wX_buildAutomaton_7 post w h 1 se n (nI i) a1 a2 a3 a4 s.1 a6 a7 s.2 a9 a10 a11 a12)
    (fun i (s : (Nat → Int32) × (Nat → Int32)) => ∀ j, j < i → s.1 j = nI 0 ∧ s.2 j = -1) 147 0 (a5, a8) (by omega) (fun j hj => absurd hj (by omega))
    (fun n s hs => pk_le 147 147 (fun _ => tm_ba36 hP hs H) (fun z => absurd z (by omega)))
    (fun n i s hi hs hw => pk_le 147 i (fun z => absurd z (by omega)) (fun _ => ?_))
  have c : (nI i).toNatClampNeg = i := nI_clamp (by omega)
  rw [c]
  exact ⟨pk_in i 147 hi, nm_e ⟨pk_in i 147 hi, nm_e (nm_r (nI_1 i) (hw (_, _) (tm_fill2 hs rfl rfl)))⟩⟩
end
end
section
/-! buildFailure, search -/
section
variable {post : St2 → Prop} {w h nc se : Int32} {a1 a2 a3 a4 a5 a6 a7 a8 a9 a10 a11 a12 : Nat → Int32}
theorem tm_fail {p : Nat} (hp : p < 3) (h3 : a3 p = nI 1)
    (H : post (w, h, nc, se, a1, a2, a3, a4, a5, a6, a7, a8, a9, upd (upd a10 (5 * p) (nI 0)) (5 * p + 1) (nI 0), a11, a12)) :
    wpX_buildFailure post (w, h, nc, se, a1, a2, a3, a4, a5, a6, a7, a8, a9, a10, a11, a12) (nI p) := by
  unfold wpX_buildFailure
  try dsimp only
  refine nm_r (pk_mul 5 p) ⟨pk_in (5 * p) 15 (by omega), ?_⟩
  rw [nI_1, nI_clamp (show 5 * p < 2 ^ 31 by omega), nI_clamp (show 5 * p + 1 < 2 ^ 31 by omega)]
  refine nm_e ⟨pk_in (5 * p + 1) 15 (by omega), nm_e ⟨0 + 1, pk_in p 3 hp, ?_⟩⟩
  rw [nI_clamp (show p < 2 ^ 31 by omega), h3]
  exact br_t (by decide) H
theorem tm_s65 {A B W Hh : Nat} (hW : W ≤ 12) (hH : Hh ≤ 12) (hA : A < W) (hT : tm_T A B a1) (hP : tm_P a2 a3 a4) (hU : tm_A a5 a8 a9) (h10 : ∀ p, p < 3 → a10 (5 * p + 1) = nI 0)
    (h0 : ∀ j, j < 36 → a11 j = nI 0 ∧ a12 j = nI 0)
    (H : ∀ b11 b12, tm_F A B (fun _ => 12 * Hh) b11 → post (nI W, nI Hh, nc, se, a1, a2, a3, a4, a5, a6, a7, a8, a9, a10, b11, b12)) :
    ∃ n, wX_search_65 post n 0 (nI W) (nI Hh) nc se a1 a2 a3 a4 a5 a6 a7 a8 a9 a10 a11 a12 :=
  pk_loop (fun n i s => wX_search_65 post n (nI i) (nI W) (nI Hh) nc se a1 a2 a3 a4 a5 a6 a7 a8 a9 a10 s.1 s.2)
    (fun i (s : (Nat → Int32) × (Nat → Int32)) => tm_F A B (fun _ => 12 * i) s.1 ∧ tm_G s.2) Hh 0 (a11, a12) (by omega)
    ⟨fun p hp y hy => ((h0 (12 * p + y) (by omega)).1).trans (congrArg nI (if_neg (fun z => Nat.not_lt_zero _ z.2)).symm), fun j hj => ⟨0, by omega, (h0 j hj).2⟩⟩
    (fun n s hs => pk_le Hh Hh (fun _ => H s.1 s.2 hs.1) (fun z => absurd z (by omega)))
    (fun n i s hi hs hw => pk_le Hh i (fun z => absurd z (by omega)) (fun _ => tm_row hW (by omega) (by omega) hT hP hU h10 hs.1 hs.2 (fun b11 b12 q1 q2 => nm_r (nI_1 i) (hw (b11, b12) ⟨tm_F_eq q1 (fun p hp y hy => by (try dsimp only); omega), q2⟩))))
theorem tm_s37 {A B W Hh : Nat} (hW : W ≤ 12) (hH : Hh ≤ 12) (hA : A < W) (hT : tm_T A B a1) (hP : tm_P a2 a3 a4) (hU : tm_A a5 a8 a9) (h10 : ∀ p, p < 3 → a10 (5 * p + 1) = nI 0)
    (H : ∀ b11 b12, tm_F A B (fun _ => 12 * Hh) b11 → post (nI W, nI Hh, nc, se, a1, a2, a3, a4, a5, a6, a7, a8, a9, a10, b11, b12)) :
    ∃ n, wX_search_37 post (nI W) (nI Hh) nc se n 0 a1 a2 a3 a4 a5 a6 a7 a8 a9 a10 a11 a12 := by
  refine pk_loop (fun n i s => wX_search_37 post (nI W) (nI Hh) nc se n (nI i) a1 a2 a3 a4 a5 a6 a7 a8 a9 a10 s.1 s.2)
    (fun i (s : (Nat → Int32) × (Nat → Int32)) => ∀ j, j < i → s.1 j = nI 0 ∧ s.2 j = nI 0) 36 0 (a11, a12) (by omega) (fun j hj => absurd hj (by omega))
    (fun n s hs => pk_le 36 36 (fun _ => tm_s65 hW hH hA hT hP hU h10 hs H) (fun z => absurd z (by omega)))
    (fun n i s hi hs hw => pk_le 36 i (fun z => absurd z (by omega)) (fun _ => ?_))
  have c : (nI i).toNatClampNeg = i := nI_clamp (by omega)
  rw [c]
  exact ⟨pk_in i 36 hi, nm_e ⟨pk_in i 36 hi, nm_e (nm_r (nI_1 i) (hw (_, _) (tm_fill2 hs rfl rfl)))⟩⟩
theorem tm_s19 {A B W Hh : Nat} (hW : W ≤ 12) (hH : Hh ≤ 12) (hA : A < W) (hT : tm_T A B a1) (hP : tm_P a2 a3 a4) (hU : tm_A a5 a8 a9)
    (H : ∀ b10 b11 b12, tm_F A B (fun _ => 12 * Hh) b11 → post (nI W, nI Hh, nc, se, a1, a2, a3, a4, a5, a6, a7, a8, a9, b10, b11, b12)) :
    ∃ n, wX_search_19 post n 0 (nI W) (nI Hh) nc se a1 a2 a3 a4 a5 a6 a7 a8 a9 a10 a11 a12 :=
  pk_loop (fun n i s => wX_search_19 post n (nI i) (nI W) (nI Hh) nc se a1 a2 a3 a4 a5 a6 a7 a8 a9 s a11 a12)
    (fun i s => ∀ p, p < i → s (5 * p + 1) = nI 0) 3 0 a10 (by omega) (fun p hp => absurd hp (by omega))
    (fun n s hs => pk_le 3 3 (fun _ => tm_s37 hW hH hA hT hP hU hs (H s)) (fun z => absurd z (by omega)))
    (fun n i s hi hs hw => pk_le 3 i (fun z => absurd z (by omega)) (fun _ => tm_fail hi (hP i hi).2.1 (nm_r (nI_1 i) (hw _ (fun p hp => by
      by_cases e : p = i
      · rw [e]
        exact pk_us
      · exact (pk_un (by omega)).trans ((pk_un (by omega)).trans (hs p (by omega))))))))
theorem tm_search {A B W Hh : Nat} (hW : W ≤ 12) (hH : Hh ≤ 12) (hA : A < W) (hT : tm_T A B a1) (hP : tm_P a2 a3 a4) (hS : se = 0 ∨ (se = 1 ∧ tm_F A B (fun _ => 12 * Hh) a11))
    (H : ∀ nc' b5 b6 b7 b8 b9 b10 b11 b12, tm_F A B (fun _ => 12 * Hh) b11 → post (nI W, nI Hh, nc', 1, a1, a2, a3, a4, b5, b6, b7, b8, b9, b10, b11, b12)) :
    wpX_search post (nI W, nI Hh, nc, se, a1, a2, a3, a4, a5, a6, a7, a8, a9, a10, a11, a12) := by
  unfold wpX_search
  try dsimp only
  rcases hS with z | ⟨z, hF⟩
  · exact br_t z (tm_auto hP (fun nc' b5 b6 b7 b8 b9 hU => tm_s19 hW hH hA hT hP hU (fun b10 b11 b12 q => H nc' b5 b6 b7 b8 b9 b10 b11 b12 q)))
  · subst z
    exact br_f (by decide) (H _ _ _ _ _ _ _ _ _ hF)
end
end
section
/-! the answers: bitsIn, occurrences, next, covered, shape, write, letter, the constructor -/
section
variable {w h nc se : Int32} {a1 a2 a3 a4 a5 a6 a7 a8 a9 a10 a11 a12 : Nat → Int32}
theorem tm_bits {post : Int32 → Prop} {A B t y : Nat} (hA : A < 12) (H : post (nI (if y = B ∧ 12 * B + A < t then 1 else 0))) :
    wpX_bitsIn post (w, h, nc, se, a1, a2, a3, a4, a5, a6, a7, a8, a9, a10, a11, a12) (nI (tm_f A B t y)) := by
  unfold wpX_bitsIn tm_f
  try dsimp only
  by_cases hc : y = B ∧ 12 * B + A < t
  · rw [if_pos hc]
    rw [if_pos hc] at H
    exact pk_loop (fun n i s => wX_bitsIn_4 post (nI (2 ^ A)) w h nc se a1 a2 a3 a4 a5 a6 a7 a8 a9 a10 a11 a12 n (nI s) (nI i)) (fun i s => s = if A < i then 1 else 0) 12 0 0 (by omega) (if_neg (Nat.not_lt_zero A)).symm
      (fun n s hs => pk_le 12 12 (fun _ => by rw [hs, if_pos hA]; exact H) (fun z => absurd z (by omega)))
      (fun n i s hi hs hw => pk_le 12 i (fun z => absurd z (by omega)) (fun _ => nm_r (by rw [tm_bit A hA i hi, nI_add]) (nm_r (nI_1 i) (hw _ (by
        rw [hs]
        by_cases h1 : A < i
        · rw [if_pos h1, if_neg (by omega), if_pos (by omega)]
        · rw [if_neg h1]
          by_cases h2 : i = A
          · rw [if_pos h2, if_pos (by omega)]
          · rw [if_neg h2, if_neg (by omega)])))))
  · rw [if_neg hc]
    rw [if_neg hc] at H
    exact pk_loop (σ := Unit) (fun n i _ => wX_bitsIn_4 post (nI 0) w h nc se a1 a2 a3 a4 a5 a6 a7 a8 a9 a10 a11 a12 n (nI 0) (nI i)) (fun _ _ => True) 12 0 () (by omega) trivial
      (fun n _ _ => pk_le 12 12 (fun _ => H) (fun z => absurd z (by omega)))
      (fun n i _ hi _ hw => pk_le 12 i (fun z => absurd z (by omega)) (fun _ => nm_r (show (nI 0 + ((nI 0 >>> (nI i &&& 31)) &&& 1) : Int32) = nI 0 by rw [tm_bit0 i hi]; decide) (nm_r (nI_1 i) (hw () trivial))))
theorem tm_tot {A B Hh i : Nat} (hA : A < 12) (hi : i < Hh) : (if B < i then 1 else 0) + (if i = B ∧ 12 * B + A < 12 * Hh then 1 else 0) = (if B < i + 1 then 1 else 0 : Nat) := by
  by_cases h1 : B < i
  · rw [if_pos h1, if_neg (by omega), if_pos (by omega)]
  · rw [if_neg h1]
    by_cases h2 : i = B
    · rw [if_pos (by omega), if_pos (by omega)]
    · rw [if_neg (by omega), if_neg (by omega)]
theorem tm_isP {post : Int32 → Prop} {p : Nat} (hp : p < 3) (H : post 1) : wpX_isPattern post (w, h, nc, se, a1, a2, a3, a4, a5, a6, a7, a8, a9, a10, a11, a12) (nI p) :=
  pk_lt p 0 (fun z => absurd z (by omega)) (fun _ => pk_lt 2 p (fun z => absurd z (by omega)) (fun _ => H))
theorem tm_nP {post : Int32 → Prop} {x : Int32} (hx : ¬ (¬ x < 0 ∧ ¬ 2 < x)) (H : post 0) : wpX_isPattern post (w, h, nc, se, a1, a2, a3, a4, a5, a6, a7, a8, a9, a10, a11, a12) x :=
  br_c (fun _ => H) (fun z => br_c (fun _ => H) (fun z2 => absurd ⟨z, z2⟩ hx))
section
variable {post : Int32 → St2 → Prop}
theorem tm_occ {A B W Hh p : Nat} (hp : p < 3) (hW : W ≤ 12) (hH : Hh ≤ 12) (hA : A < W) (hT : tm_T A B a1) (hP : tm_P a2 a3 a4) (hS : se = 0 ∨ (se = 1 ∧ tm_F A B (fun _ => 12 * Hh) a11))
    (H : ∀ nc' b5 b6 b7 b8 b9 b10 b11 b12, tm_F A B (fun _ => 12 * Hh) b11 → post (nI (if B < Hh then 1 else 0)) (nI W, nI Hh, nc', 1, a1, a2, a3, a4, b5, b6, b7, b8, b9, b10, b11, b12)) :
    wpX_occurrences post (nI W, nI Hh, nc, se, a1, a2, a3, a4, a5, a6, a7, a8, a9, a10, a11, a12) (nI p) := by
  unfold wpX_occurrences
  try dsimp only
  refine tm_isP hp (br_f (by decide) (tm_search hW hH hA hT hP hS (fun nc' b5 b6 b7 b8 b9 b10 b11 b12 q => ?_)))
  refine pk_loop (fun n i s => wX_occurrences_18 post (nI p) (nI W) (nI Hh) nc' 1 a1 a2 a3 a4 b5 b6 b7 b8 b9 b10 b11 b12 n (nI s) (nI i)) (fun i s => s = if B < i then 1 else 0) Hh 0 0 (by omega) (if_neg (Nat.not_lt_zero B)).symm
    (fun n s hs => pk_le Hh Hh (fun _ => by rw [hs]; exact H nc' b5 b6 b7 b8 b9 b10 b11 b12 q) (fun z => absurd z (by omega)))
    (fun n i s hi hs hw => pk_le Hh i (fun z => absurd z (by omega)) (fun _ => ?_))
  have e : (12 : Int32) * nI p + nI i = nI (12 * p + i) := tm_ix 12 p i
  rw [e, nI_clamp (show 12 * p + i < 2 ^ 31 by omega), q p hp i (by omega)]
  exact ⟨pk_in (12 * p + i) 36 (by omega), tm_bits (by omega) (nm_r (nI_add s _) (nm_r (nI_1 i) (hw _ (by rw [hs]; exact tm_tot (by omega) hi))))⟩
theorem tm_occN {x : Int32} (hx : ¬ (¬ x < 0 ∧ ¬ 2 < x)) (H : post (-1) (w, h, nc, se, a1, a2, a3, a4, a5, a6, a7, a8, a9, a10, a11, a12)) : wpX_occurrences post (w, h, nc, se, a1, a2, a3, a4, a5, a6, a7, a8, a9, a10, a11, a12) x := by
  unfold wpX_occurrences
  try dsimp only
  exact tm_nP hx (br_t rfl H)
theorem tm_n27m {J : Int32 → Prop} {v : Int32} {W p y : Nat} (hp : p < 3) (hy : y < 12) (hW : W ≤ 12) (hb : a11 (12 * p + y) = nI 0) (H : J (nI (y + 1))) :
    ∃ n, wX_next_27 post J (nI p) v (nI y) (nI W) h nc se a1 a2 a3 a4 a5 a6 a7 a8 a9 a10 a11 a12 n 0 := by
  refine pk_loop (σ := Unit) (fun n i _ => wX_next_27 post J (nI p) v (nI y) (nI W) h nc se a1 a2 a3 a4 a5 a6 a7 a8 a9 a10 a11 a12 n (nI i)) (fun _ _ => True) W 0 () (by omega) trivial
    (fun n _ _ => pk_le W W (fun _ => nm_r (nI_1 y) H) (fun z => absurd z (by omega)))
    (fun n i _ hi _ hw => pk_le W i (fun z => absurd z (by omega)) (fun _ => br_c (fun _ => nm_r (nI_1 i) (hw () trivial)) (fun _ => ?_)))
  have e : (12 : Int32) * nI p + nI y = nI (12 * p + y) := tm_ix 12 p y
  rw [e, nI_clamp (show 12 * p + y < 2 ^ 31 by omega), hb, tm_bit0 i (by omega)]
  exact ⟨pk_in (12 * p + y) 36 (by omega), br_t rfl (nm_r (nI_1 i) (hw () trivial))⟩
theorem tm_n27h {J : Int32 → Prop} {A B W p : Nat} (hp : p < 3) (hB : B < 12) (hW : W ≤ 12) (hA : A < W) (hb : a11 (12 * p + B) = nI (2 ^ A)) (H : post (nI (16 * B + A)) (nI W, h, nc, se, a1, a2, a3, a4, a5, a6, a7, a8, a9, a10, a11, a12)) :
    ∃ n, wX_next_27 post J (nI p) (nI A) (nI B) (nI W) h nc se a1 a2 a3 a4 a5 a6 a7 a8 a9 a10 a11 a12 n 0 := by
  have e : (12 : Int32) * nI p + nI B = nI (12 * p + B) := tm_ix 12 p B
  have e2 : ∀ i, (16 : Int32) * nI B + nI i = nI (16 * B + i) := fun i => tm_ix 16 B i
  refine pk_loop (σ := Unit) (fun n i _ => wX_next_27 post J (nI p) (nI A) (nI B) (nI W) h nc se a1 a2 a3 a4 a5 a6 a7 a8 a9 a10 a11 a12 n (nI i)) (fun _ _ => True) A 0 () (by omega) trivial
    (fun n _ _ => pk_le W A (fun z => absurd z (by omega)) (fun _ => ?_))
    (fun n i _ hi _ hw => pk_le W i (fun z => absurd z (by omega)) (fun _ => br_c (fun _ => nm_r (nI_1 i) (hw () trivial)) (fun _ => ?_)))
  · rw [e, e2, nI_clamp (show 12 * p + B < 2 ^ 31 by omega), hb, tm_bit A (by omega) A (by omega), if_pos rfl]
    exact pk_lt (16 * B + A) A (fun z => absurd z (by omega)) (fun _ => ⟨pk_in (12 * p + B) 36 (by omega), br_f (by decide) H⟩)
  · rw [e, nI_clamp (show 12 * p + B < 2 ^ 31 by omega), hb, tm_bit A (by omega) i (by omega), if_neg (by omega)]
    exact ⟨pk_in (12 * p + B) 36 (by omega), br_t rfl (nm_r (nI_1 i) (hw () trivial))⟩
theorem tm_next {A B W Hh p : Nat} {v : Int32} (hp : p < 3) (hW : W ≤ 12) (hH : Hh ≤ 12) (hA : A < W) (hT : tm_T A B a1) (hP : tm_P a2 a3 a4) (hS : se = 0 ∨ (se = 1 ∧ tm_F A B (fun _ => 12 * Hh) a11)) (hv : B < Hh → v = nI A)
    (H : ∀ nc' b5 b6 b7 b8 b9 b10 b11 b12, tm_F A B (fun _ => 12 * Hh) b11 → post (if B < Hh then nI (16 * B + A) else -2) (nI W, nI Hh, nc', 1, a1, a2, a3, a4, b5, b6, b7, b8, b9, b10, b11, b12)) :
    wpX_next post (nI W, nI Hh, nc, se, a1, a2, a3, a4, a5, a6, a7, a8, a9, a10, a11, a12) (nI p) v := by
  unfold wpX_next
  try dsimp only
  refine tm_isP hp (br_f (by decide) (tm_search hW hH hA hT hP hS (fun nc' b5 b6 b7 b8 b9 b10 b11 b12 q => ?_)))
  have K := H nc' b5 b6 b7 b8 b9 b10 b11 b12 q
  have q0 : ∀ y, y < 12 → y ≠ B → b11 (12 * p + y) = nI 0 := fun y hy hn => (q p hp y hy).trans (congrArg nI (if_neg (fun z => hn z.1)))
  by_cases hB : B < Hh
  · rw [if_pos hB] at K
    rw [hv hB]
    exact pk_loop (σ := Unit) (fun n i _ => wX_next_16 post (nI p) (nI A) (nI W) (nI Hh) nc' 1 a1 a2 a3 a4 b5 b6 b7 b8 b9 b10 b11 b12 n (nI i)) (fun _ _ => True) B 0 () (by omega) trivial
      (fun n _ _ => pk_le Hh B (fun z => absurd z (by omega)) (fun _ => tm_n27h hp (by omega) hW hA ((q p hp B (by omega)).trans (congrArg nI (if_pos ⟨rfl, show 12 * B + A < 12 * Hh by omega⟩))) K))
      (fun n i _ hi _ hw => pk_le Hh i (fun z => absurd z (by omega)) (fun _ => tm_n27m hp (by omega) hW (q0 i (by omega) (by omega)) (hw () trivial)))
  · rw [if_neg hB] at K
    exact pk_loop (σ := Unit) (fun n i _ => wX_next_16 post (nI p) v (nI W) (nI Hh) nc' 1 a1 a2 a3 a4 b5 b6 b7 b8 b9 b10 b11 b12 n (nI i)) (fun _ _ => True) Hh 0 () (by omega) trivial
      (fun n _ _ => pk_le Hh Hh (fun _ => K) (fun z => absurd z (by omega)))
      (fun n i _ hi _ hw => pk_le Hh i (fun z => absurd z (by omega)) (fun _ => tm_n27m hp (by omega) hW (q0 i (by omega) (by omega)) (hw () trivial)))
theorem tm_nextN {x v : Int32} (hx : ¬ (¬ x < 0 ∧ ¬ 2 < x)) (H : post (-1) (w, h, nc, se, a1, a2, a3, a4, a5, a6, a7, a8, a9, a10, a11, a12)) : wpX_next post (w, h, nc, se, a1, a2, a3, a4, a5, a6, a7, a8, a9, a10, a11, a12) x v := by
  unfold wpX_next
  try dsimp only
  exact tm_nP hx (br_t rfl H)
theorem tm_cir {post : Int32 → Prop} {p y : Nat} (hp : p < 3) (hy : y < 12) (hP : tm_P a2 a3 a4) (H : post (a11 (12 * p + y))) :
    wpX_coveredInRow post (w, h, nc, se, a1, a2, a3, a4, a5, a6, a7, a8, a9, a10, a11, a12) (nI p) (nI y) := by
  obtain ⟨h2, h3, h4⟩ := hP p hp
  have c : (nI p).toNatClampNeg = p := nI_clamp (by omega)
  have e : (12 : Int32) * nI p + nI y - 0 = nI (12 * p + y) := by
    show nI 12 * nI p + nI y - nI 0 = _
    rw [tm_ix, pk_sub (Nat.zero_le _), Nat.sub_zero]
  have o : ∀ x : Int32, (0 : Int32) ||| x = x := fun x => Int32.zero_or
  unfold wpX_coveredInRow
  try dsimp only
  refine ⟨0 + 1 + 1, pk_in p 3 hp, ?_⟩
  rw [c, h3, e, nI_clamp (show 12 * p + y < 2 ^ 31 by omega), o]
  refine br_f (by decide) (pk_lt y 0 (fun z => absurd z (by omega)) (fun _ => ⟨pk_in (12 * p + y) 36 (by omega), nm_e (nm_r (show (0 : Int32) + 1 = nI 1 by decide) ⟨pk_in p 3 hp, ?_⟩)⟩))
  rw [c, h3]
  refine br_t (by decide) ⟨0 + 1 + 1, pk_in p 3 hp, ?_⟩
  rw [c, h2, sb_shl0, o]
  refine br_f (by decide) (nm_e (nm_r (show (0 : Int32) + 1 = nI 1 by decide) ⟨pk_in p 3 hp, ?_⟩))
  rw [c, h2]
  exact br_t (by decide) H
theorem tm_cov {A B W Hh : Nat} (hW : W ≤ 12) (hH : Hh ≤ 12) (hA : A < W) (hT : tm_T A B a1) (hP : tm_P a2 a3 a4) (hS : se = 0 ∨ (se = 1 ∧ tm_F A B (fun _ => 12 * Hh) a11))
    (H : ∀ nc' b5 b6 b7 b8 b9 b10 b11 b12, post (nI (if B < Hh then 1 else 0)) (nI W, nI Hh, nc', 1, a1, a2, a3, a4, b5, b6, b7, b8, b9, b10, b11, b12)) :
    wpX_covered post (nI W, nI Hh, nc, se, a1, a2, a3, a4, a5, a6, a7, a8, a9, a10, a11, a12) := by
  unfold wpX_covered
  try dsimp only
  refine tm_search hW hH hA hT hP hS (fun nc' b5 b6 b7 b8 b9 b10 b11 b12 q => ?_)
  refine pk_loop (fun n i s => wX_covered_8 post (nI W) (nI Hh) nc' 1 a1 a2 a3 a4 b5 b6 b7 b8 b9 b10 b11 b12 n (nI s) (nI i)) (fun i s => s = if B < i then 1 else 0) Hh 0 0 (by omega) (if_neg (Nat.not_lt_zero B)).symm
    (fun n s hs => pk_le Hh Hh (fun _ => by rw [hs]; exact H nc' b5 b6 b7 b8 b9 b10 b11 b12) (fun z => absurd z (by omega)))
    (fun n i s hi hs hw => pk_le Hh i (fun z => absurd z (by omega)) (fun _ => ?_))
  refine pk_loop (fun m k r => wX_covered_21 post (wX_covered_8 post (nI W) (nI Hh) nc' 1 a1 a2 a3 a4 b5 b6 b7 b8 b9 b10 b11 b12 n) (nI s) (nI i) (nI W) (nI Hh) nc' 1 a1 a2 a3 a4 b5 b6 b7 b8 b9 b10 b11 b12 m r (nI k)) (fun k r => (k = 0 → r = nI 0) ∧ (0 < k → r = nI (tm_f A B (12 * Hh) i))) 3 0 (nI 0) (by omega) ⟨fun _ => rfl, fun z => absurd z (by omega)⟩
    (fun m r hr => pk_le 3 3 (fun _ => ?_) (fun z => absurd z (by omega)))
    (fun m k r hk hr hv => pk_le 3 k (fun z => absurd z (by omega)) (fun _ => tm_cir hk (by omega) hP (nm_r (e' := nI (tm_f A B (12 * Hh) i)) ?_ (nm_r (nI_1 k) (hv _ ⟨fun z => absurd z (by omega), fun _ => rfl⟩)))))
  · rw [hr.2 (by omega)]
    exact tm_bits (by omega) (nm_r (nI_add s _) (nm_r (nI_1 i) (hw _ (by rw [hs]; exact tm_tot (by omega) hi))))
  · rw [q k hk i (by omega)]
    rcases (show k = 0 ∨ 0 < k by omega) with z | z
    · rw [hr.1 z, tm_or0]
    · rw [hr.2 z]
      exact Int32.or_self
theorem tm_shape {x l : Int32} (H0 : ¬ (¬ x < 0 ∧ ¬ 2 < x ∧ ¬ l < 1 ∧ ¬ 4 < l) → ∀ u, post 0 u) (H1 : (¬ x < 0 ∧ ¬ 2 < x ∧ ¬ l < 1 ∧ ¬ 4 < l) → ∀ u, post 1 u) :
    wpX_shape post (w, h, nc, se, a1, a2, a3, a4, a5, a6, a7, a8, a9, a10, a11, a12) x l l := by
  unfold wpX_shape
  try dsimp only
  by_cases hx : ¬ x < 0 ∧ ¬ 2 < x
  · obtain ⟨p, hp, rfl⟩ := nI_of2 (M := 2) (n := 2) (by decide) hx.1 (Int32.not_lt.mp hx.2)
    refine tm_isP (by omega) (br_f (by decide) (br_c (fun z => H0 (fun t => t.2.2.1 z) _) (fun z => br_c (fun z2 => H0 (fun t => t.2.2.2 z2) _) (fun z2 => br_f z (br_t (Int32.not_lt.mp z2) ?_)))))
    refine ⟨pk_in p 3 (by omega), nm_e ⟨pk_in p 3 (by omega), nm_e ?_⟩⟩
    refine pk_loop (fun n i s => wX_shape_49 post (nI p) w h nc se n (nI i) a1 _ _ s a5 a6 a7 a8 a9 a10 a11 a12) (fun _ _ => True) 16 0 a4 (by omega) trivial
      (fun n s _ => pk_le 16 16 (fun _ => H1 ⟨hx.1, hx.2, z, z2⟩ _) (fun z => absurd z (by omega)))
      (fun n i s hi _ hw => pk_le 16 i (fun z => absurd z (by omega)) (fun _ => ⟨pk_in (16 * p + i) 48 (by omega) (tm_ix 16 p i), nm_e (nm_r (nI_1 i) (hw _ trivial))⟩))
  · exact tm_nP hx (br_t rfl (H0 (fun t => hx ⟨t.1, t.2.1⟩) _))
end
/-- a place of the text -/
def tm_in (w h x y : Int32) : Prop := ¬ x < 0 ∧ ¬ w ≤ x ∧ ¬ y < 0 ∧ ¬ h ≤ y
theorem tm_inT {post : Int32 → Prop} {x y : Int32} (H1 : tm_in w h x y → post 1) (H0 : ¬ tm_in w h x y → post 0) : wpX_inText post (w, h, nc, se, a1, a2, a3, a4, a5, a6, a7, a8, a9, a10, a11, a12) x y :=
  br_c (fun z => H0 (fun t => t.1 z)) (fun z1 => br_c (fun z => H0 (fun t => t.2.1 z)) (fun z2 => br_c (fun z => H0 (fun t => t.2.2.1 z)) (fun z3 => br_c (fun z => H0 (fun t => t.2.2.2 z)) (fun z4 => H1 ⟨z1, z2, z3, z4⟩))))
theorem tm_in_of {W Hh : Nat} {x y : Int32} (hW : W ≤ 12) (hH : Hh ≤ 12) (hi : tm_in (nI W) (nI Hh) x y) : ∃ A B : Nat, A < W ∧ B < Hh ∧ x = nI A ∧ y = nI B := by
  obtain ⟨h1, h2, h3, h4⟩ := hi
  obtain ⟨A, hA, rfl⟩ := nI_of h1
  obtain ⟨B, hB, rfl⟩ := nI_of h3
  rw [nI_leI (by omega) hA] at h2
  rw [nI_leI (by omega) hB] at h4
  exact ⟨A, B, by omega, by omega, rfl, rfl⟩
theorem tm_wr1 {post : Int32 → St2 → Prop} {W Hh A B c : Nat} (hW : W ≤ 12) (hH : Hh ≤ 12) (hA : A < W) (hB : B < Hh) (hc : c ≤ 2) (H : post 1 (nI W, nI Hh, nc, 0, upd a1 (12 * B + A) (nI c), a2, a3, a4, a5, a6, a7, a8, a9, a10, a11, a12)) :
    wpX_write post (nI W, nI Hh, nc, se, a1, a2, a3, a4, a5, a6, a7, a8, a9, a10, a11, a12) (nI A) (nI B) (nI c) := by
  have e : (12 : Int32) * nI B + nI A = nI (12 * B + A) := tm_ix 12 B A
  unfold wpX_write
  try dsimp only
  rw [e, nI_clamp (show 12 * B + A < 2 ^ 31 by omega), tm_b c (by omega)]
  refine tm_inT (fun _ => br_f (by decide) (br_f (nI_pos (by omega)) (pk_le c 2 (fun _ => ⟨pk_in (12 * B + A) 144 (by omega), nm_e H⟩) (fun z => absurd z (by omega))))) (fun z => absurd ⟨nI_pos (by omega), nI_ge hA (by omega), nI_pos (by omega), nI_ge hB (by omega)⟩ z)
theorem tm_wr0 {post : Int32 → St2 → Prop} {x y l : Int32} (hn : ¬ (tm_in w h x y ∧ ¬ l < 0 ∧ ¬ 2 < l)) (H : post 0 (w, h, nc, se, a1, a2, a3, a4, a5, a6, a7, a8, a9, a10, a11, a12)) :
    wpX_write post (w, h, nc, se, a1, a2, a3, a4, a5, a6, a7, a8, a9, a10, a11, a12) x y l := by
  unfold wpX_write
  try dsimp only
  exact tm_inT (fun hi => br_f (by decide) (br_c (fun _ => H) (fun z => br_f (fun t => hn ⟨hi, z, Int32.not_lt.mpr t⟩) H))) (fun _ => br_t rfl H)
theorem tm_let1 {post : Int32 → Prop} {W Hh A B : Nat} (hW : W ≤ 12) (hH : Hh ≤ 12) (hA : A < W) (hB : B < Hh) (H : post (a1 (12 * B + A))) :
    wpX_letter post (nI W, nI Hh, nc, se, a1, a2, a3, a4, a5, a6, a7, a8, a9, a10, a11, a12) (nI A) (nI B) := by
  have e : (12 : Int32) * nI B + nI A = nI (12 * B + A) := tm_ix 12 B A
  unfold wpX_letter
  try dsimp only
  rw [e, nI_clamp (show 12 * B + A < 2 ^ 31 by omega)]
  exact tm_inT (fun _ => br_f (by decide) ⟨pk_in (12 * B + A) 144 (by omega), H⟩) (fun z => absurd ⟨nI_pos (by omega), nI_ge hA (by omega), nI_pos (by omega), nI_ge hB (by omega)⟩ z)
theorem tm_let0 {post : Int32 → Prop} {x y : Int32} (hn : ¬ tm_in w h x y) (H : post (-1)) :
    wpX_letter post (w, h, nc, se, a1, a2, a3, a4, a5, a6, a7, a8, a9, a10, a11, a12) x y := by
  unfold wpX_letter
  try dsimp only
  exact tm_inT (fun z => absurd z hn) (fun _ => br_t rfl H)
end
/-- W is x held between 4 and 12 -/
def tm_cl (x : Int32) (W : Nat) : Prop := (4 ≤ W ∧ W ≤ 12) ∧ ((4 ≤ x ∧ x ≤ 12 ∧ x = nI W) ∨ (4 ≤ x ∧ ¬ x ≤ 12 ∧ W = 12) ∨ (¬ 4 ≤ x ∧ W = 4))
theorem tm_cl_ex (x : Int32) : ∃ W, tm_cl x W := by
  by_cases h4 : 4 ≤ x
  · by_cases h12 : x ≤ 12
    · obtain ⟨j, hj, e⟩ := nI_of2 (M := 12) (n := 12) (by decide) (Int32.not_lt.mpr (Int32.le_trans (by decide : (0 : Int32) ≤ 4) h4)) h12
      refine ⟨j, ⟨?_, hj⟩, Or.inl ⟨h4, h12, e⟩⟩
      rw [e] at h4
      exact (nI_leI (a := 4) (by decide) (by omega)).mp h4
    · exact ⟨12, by decide, Or.inr (Or.inl ⟨h4, h12, rfl⟩)⟩
  · exact ⟨4, by decide, Or.inr (Or.inr ⟨h4, rfl⟩)⟩
theorem tm_clamp {x : Int32} {W : Nat} (A : Int32 → Prop) (hW : tm_cl x W) (H : A (nI W)) : (4 ≤ x → ((x ≤ 12 → A x) ∧ (¬ x ≤ 12 → A 12))) ∧ (¬ 4 ≤ x → A 4) := by
  rcases hW.2 with ⟨h1, h2, e⟩ | ⟨h1, h2, e⟩ | ⟨h1, e⟩
  · rw [← e] at H
    exact br_t h1 (br_t h2 H)
  · rw [e] at H
    exact br_t h1 (br_f h2 H)
  · rw [e] at H
    exact br_f h1 H
theorem tm_P_put {s1 s2 s3 : Nat → Int32} {i : Nat} (hs : ∀ p, p < i → s1 p = nI 1 ∧ s2 p = nI 1 ∧ s3 (16 * p) = nI 1) : ∀ p, p < i + 1 → upd s1 i 1 p = nI 1 ∧ upd s2 i 1 p = nI 1 ∧ upd s3 (16 * i) 1 (16 * p) = nI 1 := by
  intro p hp
  by_cases z : p = i
  · rw [z, pk_us, pk_us, pk_us]
    exact ⟨rfl, rfl, rfl⟩
  · rw [pk_un z, pk_un z, pk_un (by omega)]
    exact hs p (by omega)
theorem tm_i153 {post : St2 → Prop} {mc ms kc ks : Nat} {w h nc se : Int32} {a1 a2 a3 a4 a5 a6 a7 a8 a9 a10 a11 a12 : Nat → Int32}
    (H : ∀ b2 b3 b4, tm_P b2 b3 b4 → post (w, h, nc, se, a1, b2, b3, b4, a5, a6, a7, a8, a9, a10, a11, a12)) :
    ∃ n, wX_init_153 post mc ms kc ks w h nc se n 0 a1 a2 a3 a4 a5 a6 a7 a8 a9 a10 a11 a12 := by
  refine pk_loop (fun n i s => wX_init_153 post mc ms kc ks w h nc se n (nI i) a1 s.1 s.2.1 s.2.2 a5 a6 a7 a8 a9 a10 a11 a12)
    (fun i (s : (Nat → Int32) × (Nat → Int32) × (Nat → Int32)) => ∀ p, p < i → s.1 p = nI 1 ∧ s.2.1 p = nI 1 ∧ s.2.2 (16 * p) = nI 1) 3 0 (a2, a3, a4) (by omega) (fun p hp => absurd hp (by omega))
    (fun n s hs => pk_le 3 3 (fun _ => H s.1 s.2.1 s.2.2 hs) (fun z => absurd z (by omega)))
    (fun n i s hi hs hw => pk_le 3 i (fun z => absurd z (by omega)) (fun _ => ?_))
  have e : (16 : Int32) * nI i = nI (16 * i) := pk_mul 16 i
  rw [e, nI_clamp (show i < 2 ^ 31 by omega), nI_clamp (show 16 * i < 2 ^ 31 by omega)]
  exact ⟨pk_in i 3 hi, nm_e ⟨pk_in i 3 hi, nm_e ⟨pk_in (16 * i) 48 (by omega), nm_e (nm_r (nI_1 i) (hw (upd s.1 i 1, upd s.2.1 i 1, upd s.2.2 (16 * i) 1) (tm_P_put hs)))⟩⟩⟩
theorem tm_init {post : St2 → Prop} {x y : Int32} {W Hh : Nat} (hW : tm_cl x W) (hH : tm_cl y Hh)
    (H : ∀ b2 b3 b4, tm_P b2 b3 b4 → post (nI W, nI Hh, 0, 0, fun _ => 0, b2, b3, b4, fun _ => 0, fun _ => 0, fun _ => 0, fun _ => 0, fun _ => 0, fun _ => 0, fun _ => 0, fun _ => 0)) :
    wpX_init post 12 689 (0, 0, 0, 0) x y := by
  unfold wpX_init
  try dsimp only
  refine ⟨by decide, by decide, by decide, by decide, by decide, by decide, by decide, by decide, by decide, by decide, by decide, by decide, by decide, by decide, by decide, by decide, by decide, by decide, by decide, by decide, by decide, by decide, by decide, by decide, ?_⟩
  refine tm_clamp (fun z => wX_init_123 post 12 689 y z 12 689 0 0 0 0 (fun _ => 0) (fun _ => 0) (fun _ => 0) (fun _ => 0) (fun _ => 0) (fun _ => 0) (fun _ => 0) (fun _ => 0) (fun _ => 0) (fun _ => 0) (fun _ => 0) (fun _ => 0)) hW ?_
  exact tm_clamp (fun z => ∃ fu153 : Nat, wX_init_153 post 12 689 12 689 (nI W) z 0 0 fu153 0 (fun _ => 0) (fun _ => 0) (fun _ => 0) (fun _ => 0) (fun _ => 0) (fun _ => 0) (fun _ => 0) (fun _ => 0) (fun _ => 0) (fun _ => 0) (fun _ => 0) (fun _ => 0)) hH (tm_i153 H)
end
section
/-! the law -/
/-- a pattern's number -/
def tm_pat (x : Int32) : Prop := ¬ x < 0 ∧ ¬ 2 < x
theorem tm_pat_of {x : Int32} (hx : tm_pat x) : ∃ p : Nat, p < 3 ∧ x = nI p := by
  obtain ⟨p, hp, e⟩ := nI_of2 (M := 2) (n := 2) (by decide) hx.1 (Int32.not_lt.mp hx.2)
  exact ⟨p, by omega, e⟩
section
variable {post : Int32 → St0 → Prop} {mc ms kc ks : Nat} {nc se : Int32} {a1 a2 a3 a4 a5 a6 a7 a8 a9 a10 a11 a12 : Nat → Int32} {x0 x1 x2 x3 x4 x5 x8 x9 x10 x11 z0 : Int32} {A B W Hh : Nat}
theorem tm_298 {z : Int32} (H : post 1 ()) : wL_lawOf_298 post mc ms z z kc ks := br_t rfl H
theorem tm_297 (H : post 1 ()) : wL_lawOf_297 post mc ms 0 kc ks := br_t rfl H
theorem tm_248 {z : Int32} (H : post 1 ()) (h10 : (x10 = 0 ∧ ¬ tm_pat x5) ∨ (x10 = 1 ∧ tm_pat x5)) (h11 : x11 = nI (if B < Hh then 1 else 0))
    (hW : W ≤ 12) (hH : Hh ≤ 12) (hA : A < W) (hT : tm_T A B a1) (hP : tm_P a2 a3 a4) (hS : se = 0 ∨ (se = 1 ∧ tm_F A B (fun _ => 12 * Hh) a11)) :
    wL_lawOf_248 post mc ms x4 x5 x10 x11 z z kc ks (nI W) (nI Hh) nc se a1 a2 a3 a4 a5 a6 a7 a8 a9 a10 a11 a12 := by
  unfold wL_lawOf_248
  refine br_t rfl (tm_cov hW hH hA hT hP hS (fun nc' b5 b6 b7 b8 b9 b10 b11 b12 => br_t h11.symm (tm_shape (fun hn u => ?_) (fun hy u => ?_))))
  · obtain ⟨u1, u2, u3, u4, u5, u6, u7, u8, u9, u10, u11, u12, u13, u14, u15, u16⟩ := u
    try dsimp only
    rcases h10 with ⟨e, hp⟩ | ⟨e, hp⟩
    · exact br_t e (tm_297 H)
    · exact br_f (by rw [e]; decide) (br_c (fun _ => tm_297 H) (fun z1 => br_c (fun _ => tm_297 H) (fun z2 => absurd ⟨hp.1, hp.2, z1, z2⟩ hn)))
  · obtain ⟨u1, u2, u3, u4, u5, u6, u7, u8, u9, u10, u11, u12, u13, u14, u15, u16⟩ := u
    try dsimp only
    rcases h10 with ⟨e, hp⟩ | ⟨e, hp⟩
    · exact absurd ⟨hy.1, hy.2.1⟩ hp
    · exact br_f (by rw [e]; decide) (br_f hy.2.2.1 (br_f hy.2.2.2 (tm_298 H)))
theorem tm_209 {z : Int32} (H : post 1 ()) (h10 : (x10 = 0 ∧ ¬ tm_pat x5) ∨ (x10 = 1 ∧ tm_pat x5)) (h11 : x11 = nI (if B < Hh then 1 else 0)) (hv : B < Hh → x2 = nI A ∧ x3 = nI B)
    (hW : W ≤ 12) (hH : Hh ≤ 12) (hA : A < W) (hT : tm_T A B a1) (hP : tm_P a2 a3 a4) (hS : se = 0 ∨ (se = 1 ∧ tm_F A B (fun _ => 12 * Hh) a11)) :
    wL_lawOf_209 post mc ms x2 x3 x4 x5 x10 x11 z z kc ks (nI W) (nI Hh) nc se a1 a2 a3 a4 a5 a6 a7 a8 a9 a10 a11 a12 := by
  unfold wL_lawOf_209
  refine br_t rfl ?_
  rcases h10 with ⟨e, hp⟩ | ⟨e, hp⟩
  · exact tm_nextN hp (br_t e (tm_248 H (Or.inl ⟨e, hp⟩) h11 hW hH hA hT hP hS))
  · obtain ⟨p, hp3, ep⟩ := tm_pat_of hp
    rw [ep]
    rw [ep] at hp
    refine tm_next hp3 hW hH hA hT hP hS (fun hB => (hv hB).1) (fun nc' b5 b6 b7 b8 b9 b10 b11 b12 q => br_f (by rw [e]; decide) ?_)
    by_cases hB : B < Hh
    · rw [if_pos hB] at h11
      rw [if_pos hB, (hv hB).1, (hv hB).2, show (16 : Int32) * nI B + nI A = nI (16 * B + A) from tm_ix 16 B A]
      refine br_t h11 (tm_248 H (Or.inr ⟨e, hp⟩) ?_ hW hH hA hT hP (Or.inr ⟨rfl, q⟩))
      rw [if_pos hB]
      exact h11
    · rw [if_neg hB] at h11
      rw [if_neg hB]
      refine br_f (by rw [h11]; decide) (tm_248 H (Or.inr ⟨e, hp⟩) ?_ hW hH hA hT hP (Or.inr ⟨rfl, q⟩))
      rw [if_neg hB]
      exact h11
theorem tm_186 {z : Int32} (H : post 1 ()) (h10 : (x10 = 0 ∧ ¬ tm_pat x5) ∨ (x10 = 1 ∧ tm_pat x5)) (h11 : x11 = nI (if B < Hh then 1 else 0)) (hv : B < Hh → x2 = nI A ∧ x3 = nI B)
    (hW : W ≤ 12) (hH : Hh ≤ 12) (hA : A < W) (hT : tm_T A B a1) (hP : tm_P a2 a3 a4) (hS : se = 0 ∨ (se = 1 ∧ tm_F A B (fun _ => 12 * Hh) a11)) :
    wL_lawOf_186 post mc ms x2 x3 x4 x5 x10 x11 z z kc ks (nI W) (nI Hh) nc se a1 a2 a3 a4 a5 a6 a7 a8 a9 a10 a11 a12 := by
  unfold wL_lawOf_186
  refine br_t rfl ?_
  rcases h10 with ⟨e, hp⟩ | ⟨e, hp⟩
  · exact tm_occN hp (br_t e (tm_209 H (Or.inl ⟨e, hp⟩) h11 hv hW hH hA hT hP hS))
  · obtain ⟨p, hp3, ep⟩ := tm_pat_of hp
    rw [ep]
    rw [ep] at hp
    refine tm_occ hp3 hW hH hA hT hP hS (fun nc' b5 b6 b7 b8 b9 b10 b11 b12 q => br_f (by rw [e]; decide) ?_)
    rw [← h11]
    exact tm_209 H (Or.inr ⟨e, hp⟩) h11 hv hW hH hA hT hP (Or.inr ⟨rfl, q⟩)
theorem tm_T_0 : tm_T 0 12 (fun _ => 0) := fun j hj => ⟨0, by omega, rfl, ⟨fun z => absurd z (by decide), fun z => absurd z (by omega)⟩⟩
theorem tm_T_1 {A B : Nat} : tm_T A B (upd (fun _ => 0) (12 * B + A) (nI 1)) := by
  intro j hj
  by_cases z : j = 12 * B + A
  · rw [z, pk_us]
    exact ⟨1, by omega, rfl, ⟨fun _ => rfl, fun _ => rfl⟩⟩
  · rw [pk_un z]
    exact ⟨0, by omega, rfl, ⟨fun t => absurd t (by decide), fun t => absurd t z⟩⟩
theorem tm_T_c {k c : Nat} (hc : c ≤ 2) (hc1 : c ≠ 1) : tm_T 0 12 (upd (fun _ => 0) k (nI c)) := by
  intro j hj
  by_cases z : j = k
  · rw [z, pk_us]
    exact ⟨c, by omega, rfl, ⟨fun t => absurd t hc1, fun t => absurd t (by omega)⟩⟩
  · rw [pk_un z]
    exact ⟨0, by omega, rfl, ⟨fun t => absurd t (by decide), fun t => absurd t (by omega)⟩⟩
theorem tm_130 (H : post 1 ()) (hW : tm_cl x0 W) (hH : tm_cl x1 Hh)
    (h8 : (x8 = 0 ∧ ¬ tm_in (nI W) (nI Hh) x2 x3) ∨ (x8 = 1 ∧ tm_in (nI W) (nI Hh) x2 x3))
    (h9 : (x9 = 0 ∧ ¬ (tm_in (nI W) (nI Hh) x2 x3 ∧ ¬ x4 < 0 ∧ ¬ 2 < x4)) ∨ (x9 = 1 ∧ (tm_in (nI W) (nI Hh) x2 x3 ∧ ¬ x4 < 0 ∧ ¬ 2 < x4)))
    (h10 : (x10 = 0 ∧ ¬ tm_pat x5) ∨ (x10 = 1 ∧ tm_pat x5))
    (hn : (z0 = 0 ∧ ¬ (x9 = 1 ∧ x4 = 1)) ∨ (z0 = 1 ∧ x9 = 1 ∧ x4 = 1)) :
    wL_lawOf_130 post 140 2224 x0 x1 x2 x3 x4 x5 x8 x9 x10 z0 0 0 := by
  unfold wL_lawOf_130
  refine ⟨by decide, by decide, 12, 689, by decide, by decide, tm_init hW hH (fun b2 b3 b4 hP => ?_)⟩
  have w4 := hW.1.1
  have w12 := hW.1.2
  have t12 := hH.1.2
  rcases h9 with ⟨e9, n9⟩ | ⟨e9, hi, l0, l2⟩
  · have z00 : z0 = nI (if 12 < Hh then 1 else 0) := by
      rw [if_neg (by omega)]
      rcases hn with ⟨e, _⟩ | ⟨_, e, _⟩
      · exact e
      · rw [e9] at e
        exact absurd e (by decide)
    refine tm_wr0 n9 (br_t e9.symm ?_)
    rcases h8 with ⟨e8, n8⟩ | ⟨e8, n8⟩
    · exact tm_let0 n8 (br_t e8 (tm_186 (A := 0) (B := 12) H h10 z00 (fun z => absurd z (by omega)) w12 t12 (by omega) tm_T_0 hP (Or.inl rfl)))
    · obtain ⟨A, B, hA, hB, e2, e3⟩ := tm_in_of w12 t12 n8
      rw [e2, e3]
      exact tm_let1 w12 t12 hA hB (br_f (by rw [e8]; decide) (br_t e9 (tm_186 (A := 0) (B := 12) H h10 z00 (fun z => absurd z (by omega)) w12 t12 (by omega) tm_T_0 hP (Or.inl rfl))))
  · obtain ⟨A, B, hA, hB, e2, e3⟩ := tm_in_of w12 t12 hi
    obtain ⟨c, hc, e4⟩ := nI_of2 (M := 2) (n := 2) (by decide) l0 (Int32.not_lt.mp l2)
    have e8 : ¬ x8 = 0 := by
      rcases h8 with ⟨e8, n8⟩ | ⟨e8, n8⟩
      · exact absurd hi n8
      · rw [e8]
        decide
    rw [e2, e3, e4]
    rw [e4] at hn
    refine tm_wr1 w12 t12 hA hB hc (br_t e9.symm (tm_let1 w12 t12 hA hB (br_f e8 (br_f (by rw [e9]; decide) ?_))))
    rw [pk_us]
    by_cases c1 : c = 1
    · refine tm_186 (A := A) (B := B) H h10 ?_ (fun _ => ⟨rfl, rfl⟩) w12 t12 hA ?_ hP (Or.inl rfl)
      · rw [if_pos hB]
        rcases hn with ⟨_, e⟩ | ⟨e, _, _⟩
        · exact absurd ⟨e9, congrArg nI c1⟩ e
        · exact e
      · rw [c1]
        exact tm_T_1
    · refine tm_186 (A := 0) (B := 12) H h10 ?_ (fun z => absurd z (by omega)) w12 t12 (by omega) (tm_T_c hc c1) hP (Or.inl rfl)
      rw [if_neg (by omega)]
      rcases hn with ⟨e, _⟩ | ⟨_, _, e⟩
      · exact e
      · exact absurd ((nI_eq (by omega) (by decide)).mp (show nI c = nI 1 from e)) c1
theorem tm_112 (H : post 1 ()) (hW : tm_cl x0 W) (hH : tm_cl x1 Hh)
    (h8 : (x8 = 0 ∧ ¬ tm_in (nI W) (nI Hh) x2 x3) ∨ (x8 = 1 ∧ tm_in (nI W) (nI Hh) x2 x3))
    (h9 : (x9 = 0 ∧ ¬ (tm_in (nI W) (nI Hh) x2 x3 ∧ ¬ x4 < 0 ∧ ¬ 2 < x4)) ∨ (x9 = 1 ∧ (tm_in (nI W) (nI Hh) x2 x3 ∧ ¬ x4 < 0 ∧ ¬ 2 < x4)))
    (h10 : (x10 = 0 ∧ ¬ tm_pat x5) ∨ (x10 = 1 ∧ tm_pat x5)) :
    wL_lawOf_112 post 140 2224 x0 x1 x2 x3 x4 x5 x8 x9 x10 0 0 := by
  unfold wL_lawOf_112 wL_lawOf_129
  refine br_c (fun z => tm_130 H hW hH h8 h9 h10 (Or.inl ⟨rfl, fun t => ?_⟩)) (fun z => br_c (fun z1 => tm_130 H hW hH h8 h9 h10 (Or.inr ⟨rfl, ?_, z1⟩)) (fun z1 => tm_130 H hW hH h8 h9 h10 (Or.inl ⟨rfl, fun t => z1 t.2⟩)))
  · rw [z] at t
    exact absurd t.1 (by decide)
  · exact h9.elim (fun t => absurd t.1 z) (fun t => t.1)
theorem tm_94 (H : post 1 ()) (hW : tm_cl x0 W) (hH : tm_cl x1 Hh)
    (h8 : (x8 = 0 ∧ ¬ tm_in (nI W) (nI Hh) x2 x3) ∨ (x8 = 1 ∧ tm_in (nI W) (nI Hh) x2 x3))
    (h9 : (x9 = 0 ∧ ¬ (tm_in (nI W) (nI Hh) x2 x3 ∧ ¬ x4 < 0 ∧ ¬ 2 < x4)) ∨ (x9 = 1 ∧ (tm_in (nI W) (nI Hh) x2 x3 ∧ ¬ x4 < 0 ∧ ¬ 2 < x4))) :
    wL_lawOf_94 post 140 2224 x0 x1 x2 x3 x4 x5 x8 x9 0 0 := by
  unfold wL_lawOf_94 wL_lawOf_111
  exact br_c (fun z => tm_112 H hW hH h8 h9 (Or.inl ⟨rfl, fun t => t.1 z⟩)) (fun z => br_c (fun z1 => tm_112 H hW hH h8 h9 (Or.inl ⟨rfl, fun t => t.2 z1⟩)) (fun z1 => tm_112 H hW hH h8 h9 (Or.inr ⟨rfl, z, z1⟩)))
theorem tm_71 (H : post 1 ()) (hW : tm_cl x0 W) (hH : tm_cl x1 Hh)
    (h8 : (x8 = 0 ∧ ¬ tm_in (nI W) (nI Hh) x2 x3) ∨ (x8 = 1 ∧ tm_in (nI W) (nI Hh) x2 x3)) :
    wL_lawOf_71 post 140 2224 x0 x1 x2 x3 x4 x5 x8 0 0 := by
  unfold wL_lawOf_71 wL_lawOf_93
  refine br_c (fun z => tm_94 H hW hH h8 (Or.inl ⟨rfl, fun t => ?_⟩)) (fun z => br_c (fun z1 => tm_94 H hW hH h8 (Or.inl ⟨rfl, fun t => t.2.1 z1⟩)) (fun z1 => br_c (fun z2 => tm_94 H hW hH h8 (Or.inl ⟨rfl, fun t => t.2.2 z2⟩)) (fun z2 => tm_94 H hW hH h8 (Or.inr ⟨rfl, h8.elim (fun t => absurd t.1 z) (fun t => t.2), z1, z2⟩))))
  rcases h8 with ⟨_, n⟩ | ⟨e, _⟩
  · exact n t.1
  · rw [z] at e
    exact absurd e (by decide)
theorem tm_44 (H : post 1 ()) (hW : tm_cl x0 W) (hH : tm_cl x1 Hh) : wL_lawOf_44 post 140 2224 x0 x1 x2 x3 x4 x5 (nI W) (nI Hh) 0 0 := by
  unfold wL_lawOf_44 wL_lawOf_70
  exact br_c (fun z => tm_71 H hW hH (Or.inl ⟨rfl, fun t => t.1 z⟩)) (fun z1 => br_c (fun z => tm_71 H hW hH (Or.inl ⟨rfl, fun t => t.2.1 z⟩)) (fun z2 => br_c (fun z => tm_71 H hW hH (Or.inl ⟨rfl, fun t => t.2.2.1 z⟩)) (fun z3 => br_c (fun z => tm_71 H hW hH (Or.inl ⟨rfl, fun t => t.2.2.2 z⟩)) (fun z4 => tm_71 H hW hH (Or.inr ⟨rfl, z1, z2, z3, z4⟩)))))
theorem tm_lawOf (H : post 1 ()) : wpL_lawOf post 140 2224 () x0 x1 x2 x3 x4 x5 := by
  obtain ⟨W, hW⟩ := tm_cl_ex x0
  obtain ⟨Hh, hH⟩ := tm_cl_ex x1
  unfold wpL_lawOf
  refine tm_clamp (fun z => wL_lawOf_21 post 140 2224 x0 x1 x2 x3 x4 x5 z 0 0) hW ?_
  exact tm_clamp (fun z => wL_lawOf_44 post 140 2224 x0 x1 x2 x3 x4 x5 (nI W) z 0 0) hH (tm_44 H hW hH)
end
theorem tm_cell {post : Int32 → Prop} {L : Nat} {xs : Nat → Int32} (k : Nat) (hk : k < 6) (hL : L ≤ 6) (H : ∀ r, post r) : wpL_cellAt post L xs () (nI k) :=
  pk_le L k (fun _ => H 0) (fun z => ⟨pk_in k L z, H _⟩)
theorem i_vc (xs : Nat → Int32) (L : Nat) (hL : L ≤ 6) : wpL_law (fun r => r = 1) L xs :=
  tm_cell 0 (by decide) hL (fun _ => tm_cell 1 (by decide) hL (fun _ => tm_cell 2 (by decide) hL (fun _ => tm_cell 3 (by decide) hL (fun _ => tm_cell 4 (by decide) hL (fun _ => tm_cell 5 (by decide) hL (fun _ => ⟨140, 2224, by decide, by decide, tm_lawOf rfl⟩))))))
end
