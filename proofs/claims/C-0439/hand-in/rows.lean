section
theorem pk_us {f : Nat → Int32} {k : Nat} {x : Int32} : upd f k x k = x := if_pos rfl
theorem pk_un {f : Nat → Int32} {k j : Nat} {x : Int32} (h : j ≠ k) : upd f k x j = f j := if_neg h
theorem pk_sub {a b : Nat} (h : b ≤ a) : nI a - nI b = nI (a - b) := by
  obtain ⟨c, rfl⟩ : ∃ c, a = c + b := ⟨a - b, by omega⟩
  rw [← nI_add, Int32.add_sub_cancel, Nat.add_sub_cancel]
theorem pk_m1 (n : Nat) : nI (n + 1) + (-1) = nI n := by
  rw [← nI_1, Int32.add_assoc, show (1 : Int32) + (-1) = 0 from rfl, Int32.add_zero]
theorem pk_mul (a b : Nat) : nI a * nI b = nI (a * b) := (Int32.ofNat_mul a b).symm
theorem pk_div {a d : Nat} (ha : a < 2 ^ 31) (h0 : 0 < d) (hd : d < 2 ^ 31) : nI a / nI d = nI (a / d) := by
  apply Int32.toInt_inj.mp
  rw [lg_idiv_nonneg (by rw [nI_toInt ha]; omega) (by rw [nI_toInt hd]; omega), nI_toInt ha, nI_toInt hd, nI_toInt (Nat.lt_of_le_of_lt (Nat.div_le_self a d) ha)]
  first | rfl | exact (Int.natCast_ediv _ _).symm
theorem pk_rem {a d : Nat} (ha : a < 2 ^ 31) (h0 : 0 < d) (hd : d < 2 ^ 31) : nI a - nI a / nI d * nI d = nI (a % d) := by
  rw [pk_div ha h0 hd, pk_mul, pk_sub (Nat.div_mul_le_self a d)]
  exact congrArg nI (by have := Nat.div_add_mod' a d; omega)
theorem pk_sub_toInt {a b : Nat} (ha : a < 2 ^ 30) (hb : b < 2 ^ 30) : (nI a - nI b).toInt = (a : Int) - b := by
  rw [Int32.toInt_sub, nI_toInt (by omega), nI_toInt (by omega)]
  exact Int.bmod_eq_of_le (by omega) (by omega)
theorem pk_sneg {a b : Nat} (hb : b < 2 ^ 30) (h : a < b) : nI a - nI b < 0 := by
  rw [Int32.lt_iff_toInt_lt, pk_sub_toInt (by omega) hb, show (0 : Int32).toInt = 0 from by decide]
  omega
theorem pk_ix (x : Int32) {n : Nat} (hn : n < 2 ^ 31) : x < 0 ∨ nI n ≤ x ∨ ∃ j : Nat, j < n ∧ x = nI j := by
  by_cases h : x < 0
  · exact Or.inl h
  · obtain ⟨j, hj, rfl⟩ := nI_of h
    by_cases h2 : j < n
    · exact Or.inr (Or.inr ⟨j, h2, rfl⟩)
    · exact Or.inr (Or.inl (nI_le (by omega) hj))
theorem pk_le {x y : Int32} {A B : Prop} (a b : Nat) (f : a ≤ b → A) (g : b < a → B) (hx : x = nI a := by rfl) (hy : y = nI b := by rfl) (ha : a < 2 ^ 31 := by omega) (hb : b < 2 ^ 31 := by omega) : (x ≤ y → A) ∧ (¬ x ≤ y → B) := by
  subst hx hy
  rw [nI_leI ha hb]
  exact ⟨f, fun z => g (by omega)⟩
theorem pk_lt {x y : Int32} {A B : Prop} (a b : Nat) (f : a < b → A) (g : b ≤ a → B) (hx : x = nI a := by rfl) (hy : y = nI b := by rfl) (ha : a < 2 ^ 31 := by omega) (hb : b < 2 ^ 31 := by omega) : (x < y → A) ∧ (¬ x < y → B) := by
  subst hx hy
  rw [nI_ltI ha hb]
  exact ⟨f, fun z => g (by omega)⟩
theorem pk_eq {x y : Int32} {A B : Prop} (a b : Nat) (f : a = b → A) (g : a ≠ b → B) (hx : x = nI a := by rfl) (hy : y = nI b := by rfl) (ha : a < 2 ^ 31 := by omega) (hb : b < 2 ^ 31 := by omega) : (x = y → A) ∧ (¬ x = y → B) := by
  subst hx hy
  rw [nI_eq ha hb]
  exact ⟨f, g⟩
theorem pk_in {x : Int32} (n N : Nat) (h : n < N) (hx : x = nI n := by rfl) (hN : N < 2 ^ 31 := by omega) : vp_in x N := by
  subst hx
  exact vp_in_nI h hN
theorem pk_cl {x : Int32} (n : Nat) (hx : x = nI n := by rfl) (h : n < 2 ^ 31 := by omega) : x.toNatClampNeg = n := by
  subst hx
  exact nI_clamp h
theorem pk_tn {n : Nat} (h : n < 2 ^ 32) : (nI n).toBitVec.toNat = n := Nat.mod_eq_of_lt h
theorem pk_and (x : Int32) {m : Int32} (k : Nat) (hm : m.toBitVec.toNat = 2 ^ k - 1) : x &&& m = nI (x.toBitVec.toNat % 2 ^ k) := by
  apply Int32.toBitVec_inj.mp
  apply BitVec.eq_of_toNat_eq
  rw [Int32.toBitVec_and, BitVec.toNat_and, hm, Nat.and_two_pow_sub_one_eq_mod]
  show _ = (BitVec.ofNat 32 _).toNat
  rw [BitVec.toNat_ofNat]
  exact (Nat.mod_eq_of_lt (Nat.lt_of_le_of_lt (Nat.mod_le _ _) x.toBitVec.isLt)).symm
theorem pk_andN {n : Nat} (h : n < 2 ^ 32) {m : Int32} (k : Nat) (hm : m.toBitVec.toNat = 2 ^ k - 1) : nI n &&& m = nI (n % 2 ^ k) := by
  rw [pk_and _ k hm, pk_tn h]
theorem pk_shr (a s : Int32) (k : Nat) (hs : (s.toBitVec.smod 32).toNat = k) : (a >>> s).toInt = a.toInt >>> k := by
  show (a.toBitVec.sshiftRight (s.toBitVec.smod 32).toNat).toInt = _
  rw [hs, BitVec.toInt_sshiftRight]
  rfl
theorem pk_shrN {n : Nat} (h : n < 2 ^ 31) (s : Int32) (k : Nat) (hs : (s.toBitVec.smod 32).toNat = k) : nI n >>> s = nI (n / 2 ^ k) := by
  apply Int32.toInt_inj.mp
  have h2 : n / 2 ^ k ≤ n := Nat.div_le_self _ _
  rw [pk_shr _ _ k hs, nI_toInt h, nI_toInt (by omega), Int.shiftRight_eq_div_pow]
  rfl
theorem pk_loop {σ : Type} (W : Nat → Nat → σ → Prop) (I : Nat → σ → Prop) (e i0 : Nat) (s : σ) (hi : i0 ≤ e) (h0 : I i0 s) (hx : ∀ n s, I e s → W (n + 1) e s)
    (hs : ∀ n i s, i < e → I i s → (∀ s', I (i + 1) s' → W n (i + 1) s') → W (n + 1) i s) : ∃ n, W n i0 s :=
  ⟨e + 1, loop_i W I e hx hs (e + 1) i0 s hi (by omega) h0⟩
end
section
/-! the turn of three points, and the scan by growing x: plain whole numbers -/
def hu_tn (ax ay bx bz cx cy : Int) : Int := (bx - ax) * (cy - ay) - (bz - ay) * (cx - ax)
theorem hu_id1 (ax ay bx bz px py rx ry : Int) : (px - bx) * hu_tn ax ay px py rx ry = (px - ax) * hu_tn bx bz px py rx ry + (px - rx) * hu_tn ax ay px py bx bz := by
  unfold hu_tn; grind
theorem hu_id2 (ax ay bx bz px py rx ry : Int) : (bx - ax) * hu_tn ax ay px py rx ry = (px - ax) * hu_tn ax ay bx bz rx ry + (rx - ax) * hu_tn ax ay px py bx bz := by
  unfold hu_tn; grind
theorem hu_id3 (ax ay bx bz px py rx ry : Int) : (bx - ax) * hu_tn bx bz px py rx ry = (px - bx) * hu_tn ax ay bx bz rx ry + (bx - rx) * hu_tn ax ay bx bz px py := by
  unfold hu_tn; grind
theorem hu_id4 (ax ay bx bz cx cy px py : Int) : (cx - bx) * hu_tn ax ay bx bz px py = (px - bx) * hu_tn ax ay bx bz cx cy + (bx - ax) * hu_tn bx bz cx cy px py := by
  unfold hu_tn; grind
theorem hu_sw (ax ay bx bz px py : Int) : hu_tn ax ay px py bx bz = - hu_tn ax ay bx bz px py := by
  unfold hu_tn; grind
theorem hu_ng (ax ay bx bz cx cy : Int) : hu_tn (-ax) (-ay) (-bx) (-bz) (-cx) (-cy) = hu_tn ax ay bx bz cx cy := by
  unfold hu_tn; grind
theorem hu_vt (ax ay bx bz px py y : Int) : hu_tn ax ay bx bz px y = hu_tn ax ay bx bz px py + (bx - ax) * (y - py) := by
  unfold hu_tn; grind
theorem hu_ve (ax ay px py y : Int) : hu_tn ax ay px py px y = (px - ax) * (y - py) := by
  unfold hu_tn; grind
theorem hu_vs (ax ay px py y : Int) : hu_tn ax ay px py ax y = (px - ax) * (y - ay) := by
  unfold hu_tn; grind
theorem hu_lg (a b : Int) : a < b ∨ b ≤ a := by omega
theorem hu_p1 {d t : Int} (hd : 0 < d) (h : 0 ≤ d * t) : 0 ≤ t := by
  rcases hu_lg t 0 with z | z
  · have := Int.mul_neg_of_pos_of_neg hd z; omega
  · exact z
theorem hu_p2 {d t : Int} (hd : 0 < d) (h : 0 < d * t) : 0 < t := by
  rcases hu_lg 0 t with z | z
  · exact z
  · have := Int.mul_nonpos_of_nonneg_of_nonpos (Int.le_of_lt hd) z; omega
theorem hu_L1 {ax ay bx bz px py rx ry : Int} (h1 : ax < bx) (h2 : bx < px) (h4 : rx ≤ px) (h5 : 0 ≤ hu_tn bx bz px py rx ry) (h6 : hu_tn ax ay bx bz px py ≤ 0) : 0 ≤ hu_tn ax ay px py rx ry := by
  have e := hu_id1 ax ay bx bz px py rx ry
  rw [hu_sw ax ay bx bz px py] at e
  have a := Int.mul_nonneg (a := px - ax) (by omega) h5
  have b := Int.mul_nonneg (a := px - rx) (b := - hu_tn ax ay bx bz px py) (by omega) (by omega)
  exact hu_p1 (d := px - bx) (by omega) (by omega)
theorem hu_L2 {ax ay bx bz px py rx ry : Int} (h1 : ax < bx) (h2 : bx < px) (h3 : ax ≤ rx) (h5 : 0 ≤ hu_tn ax ay bx bz rx ry) (h6 : hu_tn ax ay bx bz px py ≤ 0) : 0 ≤ hu_tn ax ay px py rx ry := by
  have e := hu_id2 ax ay bx bz px py rx ry
  rw [hu_sw ax ay bx bz px py] at e
  have a := Int.mul_nonneg (a := px - ax) (by omega) h5
  have b := Int.mul_nonneg (a := rx - ax) (b := - hu_tn ax ay bx bz px py) (by omega) (by omega)
  exact hu_p1 (d := bx - ax) (by omega) (by omega)
theorem hu_L3 {ax ay bx bz px py rx ry : Int} (h1 : ax < bx) (h2 : bx < px) (h3 : rx < bx) (h5 : 0 ≤ hu_tn ax ay bx bz rx ry) (h6 : 0 < hu_tn ax ay bx bz px py) : 0 < hu_tn bx bz px py rx ry := by
  have e := hu_id3 ax ay bx bz px py rx ry
  have a := Int.mul_nonneg (a := px - bx) (by omega) h5
  have b := Int.mul_pos (a := bx - rx) (by omega) h6
  exact hu_p2 (d := bx - ax) (by omega) (by omega)
theorem hu_L4 {ax ay bx bz cx cy px py : Int} (h1 : ax < bx) (h2 : bx < cx) (h3 : cx < px) (h5 : 0 < hu_tn ax ay bx bz cx cy) (h6 : 0 < hu_tn bx bz cx cy px py) : 0 < hu_tn ax ay bx bz px py := by
  have e := hu_id4 ax ay bx bz cx cy px py
  have a := Int.mul_pos (a := px - bx) (by omega) h5
  have b := Int.mul_pos (a := bx - ax) (by omega) h6
  exact hu_p2 (d := cx - bx) (by omega) (by omega)
/-- the chain of corners b .. n-1 of the points Q that were met so far -/
def hu_CH (X Y : Nat → Int) (Q : Int → Int → Prop) (b n : Nat) : Prop :=
  b < n ∧ (∀ i, b ≤ i → i < n → Q (X i) (Y i)) ∧ (∀ i, b ≤ i → i + 1 < n → X i < X (i + 1)) ∧
  (∀ i, b ≤ i → i + 1 < n → ∀ x y, Q x y → 0 ≤ hu_tn (X i) (Y i) (X (i + 1)) (Y (i + 1)) x y ∧ (hu_tn (X i) (Y i) (X (i + 1)) (Y (i + 1)) x y = 0 → X i ≤ x ∧ x ≤ X (i + 1))) ∧
  (∀ x y, Q x y → X b ≤ x ∧ x ≤ X (n - 1) ∧ (x = X b → Y b ≤ y) ∧ (x = X (n - 1) → Y (n - 1) ≤ y))
/-- while corners go: what lies from corner t-1 on lies left of the way from it to the new point -/
def hu_PI (X Y : Nat → Int) (Q : Int → Int → Prop) (px py : Int) (t : Nat) : Prop :=
  ∀ x y, Q x y → X (t - 1) ≤ x → 0 ≤ hu_tn (X (t - 1)) (Y (t - 1)) px py x y
theorem hu_lt {X Y : Nat → Int} {Q : Int → Int → Prop} {b n : Nat} {px : Int} (C : hu_CH X Y Q b n) (hp : X (n - 1) < px) {i : Nat} (h1 : b ≤ i) (h2 : i < n) : X i < px := by
  have := (C.2.2.2.2 _ _ (C.2.1 i h1 h2)).2.1
  omega
theorem hu_pi0 {X Y : Nat → Int} {Q : Int → Int → Prop} {b n : Nat} {px py : Int} (C : hu_CH X Y Q b n) (hp : X (n - 1) < px) : hu_PI X Y Q px py n := by
  intro x y q hx
  obtain ⟨_, h2, _, h4⟩ := C.2.2.2.2 x y q
  have e : x = X (n - 1) := by omega
  have h := h4 e
  rw [e, hu_vs]
  exact Int.mul_nonneg (by omega) (by omega)
theorem hu_pi1 {X Y : Nat → Int} {Q : Int → Int → Prop} {b n : Nat} {px py : Int} (C : hu_CH X Y Q b n) (hp : X (n - 1) < px) {t : Nat} (ht : b + 1 < t) (htn : t ≤ n) (P : hu_PI X Y Q px py t) (hl : hu_tn (X (t - 2)) (Y (t - 2)) (X (t - 1)) (Y (t - 1)) px py ≤ 0) : hu_PI X Y Q px py (t - 1) := by
  obtain ⟨s, rfl⟩ : ∃ s, t = s + 2 := ⟨t - 2, by omega⟩
  have e1 : s + 2 - 1 = s + 1 := by omega
  have e2 : s + 2 - 2 = s := by omega
  unfold hu_PI at P ⊢
  rw [e1] at P hl ⊢
  rw [e2] at hl
  intro x y q hx
  have e3 : s + 1 - 1 = s := by omega
  rw [e3] at hx ⊢
  have m := C.2.2.1 s (by omega) (by omega)
  have l := hu_lt C hp (i := s + 1) (by omega) (by omega)
  have o := C.2.2.2.2 x y q
  rcases hu_lg x (X (s + 1)) with z | z
  · exact hu_L2 m l hx (C.2.2.2.1 s (by omega) (by omega) x y q).1 hl
  · exact hu_L1 m l (by omega) (P x y q z) hl
/-- the corners that stay -/
def hu_PO (X Y : Nat → Int) (Q : Int → Int → Prop) (px py : Int) (b t : Nat) : Prop :=
  hu_PI X Y Q px py t ∧ (t = b + 1 ∨ (b + 1 < t ∧ 0 < hu_tn (X (t - 2)) (Y (t - 2)) (X (t - 1)) (Y (t - 1)) px py))
theorem hu_po {X Y : Nat → Int} {Q : Int → Int → Prop} {b n : Nat} {px py : Int} (C : hu_CH X Y Q b n) (hp : X (n - 1) < px) : ∀ k t, t = b + 1 + k → t ≤ n → hu_PI X Y Q px py t → ∃ s, b < s ∧ s ≤ n ∧ hu_PO X Y Q px py b s := by
  intro k
  induction k with
  | zero => intro t e h P; exact ⟨t, by omega, h, P, Or.inl e⟩
  | succ k ih =>
    intro t e h P
    rcases hu_lg 0 (hu_tn (X (t - 2)) (Y (t - 2)) (X (t - 1)) (Y (t - 1)) px py) with z | z
    · exact ⟨t, by omega, h, P, Or.inr ⟨by omega, z⟩⟩
    · exact ih (t - 1) (by omega) (by omega) (hu_pi1 C hp (by omega) h P z)
theorem hu_up {X Y : Nat → Int} {Q : Int → Int → Prop} {b n : Nat} {px py : Int} (C : hu_CH X Y Q b n) (hp : X (n - 1) < px) {t : Nat} (htn : t ≤ n) (P : hu_PO X Y Q px py b t) : ∀ k i, i + 2 + k = t → b ≤ i → 0 < hu_tn (X i) (Y i) (X (i + 1)) (Y (i + 1)) px py := by
  intro k
  induction k with
  | zero =>
    intro i e hb
    rcases P.2 with h | ⟨_, h⟩
    · omega
    · have e1 : t - 1 = i + 1 := by omega
      have e2 : t - 2 = i := by omega
      rw [e1, e2] at h
      exact h
  | succ k ih =>
    intro i e hb
    have a := ih (i + 1) (by omega) (by omega)
    have m := C.2.2.1 i (by omega) (by omega)
    have m2 := C.2.2.1 (i + 1) (by omega) (by omega)
    have q := C.2.1 (i + 2) (by omega) (by omega)
    obtain ⟨g1, g2⟩ := C.2.2.2.1 i (by omega) (by omega) _ _ q
    have l := hu_lt C hp (i := i + 2) (by omega) (by omega)
    have g3 : 0 < hu_tn (X i) (Y i) (X (i + 1)) (Y (i + 1)) (X (i + 2)) (Y (i + 2)) := by
      rcases hu_lg 0 (hu_tn (X i) (Y i) (X (i + 1)) (Y (i + 1)) (X (i + 2)) (Y (i + 2))) with z | z
      · exact z
      · have := g2 (by omega)
        have m3 : X (i + 1) < X (i + 2) := m2
        omega
    exact hu_L4 m m2 l g3 a
theorem hu_push {X Y X' Y' : Nat → Int} {Q Q' : Int → Int → Prop} {b n : Nat} {px py : Int} (C : hu_CH X Y Q b n) (hp : X (n - 1) < px) {t : Nat} (hbt : b < t) (htn : t ≤ n) (P : hu_PO X Y Q px py b t)
    (hQ : ∀ x y, Q' x y → Q x y ∨ (x = px ∧ py ≤ y)) (hQ2 : ∀ x y, Q x y → Q' x y) (hQ3 : Q' px py) (hX : ∀ i, i < t → X' i = X i ∧ Y' i = Y i) (hX2 : X' t = px ∧ Y' t = py) : hu_CH X' Y' Q' b (t + 1) := by
  have hb := C.1
  have lb : X b < px := hu_lt C hp (Nat.le_refl b) hb
  refine ⟨by omega, ?_, ?_, ?_, ?_⟩
  · intro i h1 h2
    rcases Nat.lt_or_ge i t with z | z
    · rw [(hX i z).1, (hX i z).2]
      exact hQ2 _ _ (C.2.1 i h1 (by omega))
    · have e : i = t := by omega
      rw [e, hX2.1, hX2.2]
      exact hQ3
  · intro i h1 h2
    rw [(hX i (by omega)).1]
    rcases Nat.lt_or_ge (i + 1) t with z | z
    · rw [(hX (i + 1) z).1]
      exact C.2.2.1 i h1 (by omega)
    · have e : i + 1 = t := by omega
      rw [e, hX2.1]
      exact hu_lt C hp h1 (by omega)
  · intro i h1 h2 x y q
    rw [(hX i (by omega)).1, (hX i (by omega)).2]
    rcases Nat.lt_or_ge (i + 1) t with z | z
    · rw [(hX (i + 1) z).1, (hX (i + 1) z).2]
      rcases hQ x y q with q1 | ⟨e, hy⟩
      · exact C.2.2.2.1 i h1 (by omega) x y q1
      · have u := hu_up C hp htn P (t - 2 - i) i (by omega) h1
        have m := C.2.2.1 i h1 (by omega)
        have w := Int.mul_nonneg (a := X (i + 1) - X i) (b := y - py) (by omega) (by omega)
        have v := hu_vt (X i) (Y i) (X (i + 1)) (Y (i + 1)) px py y
        rw [e]
        omega
    · have e : i + 1 = t := by omega
      rw [e, hX2.1, hX2.2]
      have e1 : t - 1 = i := by omega
      have l := hu_lt C hp (i := i) h1 (by omega)
      rcases hQ x y q with q1 | ⟨e2, hy⟩
      · have o := C.2.2.2.2 x y q1
        rcases hu_lg x (X i) with z2 | z2
        · have hs : 0 < hu_tn (X i) (Y i) px py x y := by
            rcases P.2 with h | ⟨h, s⟩
            · have e3 : i = b := by omega
              rw [e3] at z2
              omega
            · have e4 : t - 2 = i - 1 := by omega
              have e5 : i - 1 + 1 = i := by omega
              rw [e1, e4] at s
              have m := C.2.2.1 (i - 1) (by omega) (by omega)
              have g := (C.2.2.2.1 (i - 1) (by omega) (by omega) x y q1).1
              rw [e5] at m g
              exact hu_L3 m l z2 g s
          omega
        · have g := P.1 x y q1
          rw [e1] at g
          have := g z2
          omega
      · rw [e2, hu_ve]
        have w := Int.mul_nonneg (a := px - X i) (b := y - py) (by omega) (by omega)
        exact ⟨w, fun _ => ⟨by omega, by omega⟩⟩
  · intro x y q
    have e : t + 1 - 1 = t := by omega
    rw [e, (hX b hbt).1, (hX b hbt).2, hX2.1, hX2.2]
    rcases hQ x y q with q1 | ⟨e2, hy⟩
    · obtain ⟨o1, o2, o3, o4⟩ := C.2.2.2.2 x y q1
      exact ⟨o1, by omega, o3, fun h => by omega⟩
    · exact ⟨by omega, by omega, fun h => by omega, fun _ => hy⟩
theorem hu_ch1 {X Y : Nat → Int} {Q : Int → Int → Prop} {b : Nat} (h : ∀ x y, Q x y → x = X b ∧ Y b ≤ y) (h0 : Q (X b) (Y b)) : hu_CH X Y Q b (b + 1) := by
  refine ⟨by omega, ?_, ?_, ?_, ?_⟩
  · intro i h1 h2
    have e : i = b := by omega
    rw [e]; exact h0
  · intro i h1 h2; omega
  · intro i h1 h2; omega
  · intro x y q
    have e : b + 1 - 1 = b := by omega
    rw [e]
    obtain ⟨h1, h2⟩ := h x y q
    exact ⟨by omega, by omega, fun _ => h2, fun _ => h2⟩
theorem hu_chq {X Y : Nat → Int} {Q Q' : Int → Int → Prop} {b n : Nat} (C : hu_CH X Y Q b n) (h : ∀ x y, Q' x y ↔ Q x y) : hu_CH X Y Q' b n := by
  have e : Q' = Q := funext fun x => funext fun y => propext (h x y)
  rw [e]; exact C
theorem hu_chx {X Y X' Y' : Nat → Int} {Q : Int → Int → Prop} {b n : Nat} (C : hu_CH X Y Q b n) (h : ∀ i, i < n → X' i = X i ∧ Y' i = Y i) : hu_CH X' Y' Q b n := by
  have hb := C.1
  refine ⟨hb, ?_, ?_, ?_, ?_⟩
  · intro i h1 h2
    rw [(h i h2).1, (h i h2).2]; exact C.2.1 i h1 h2
  · intro i h1 h2
    rw [(h i (by omega)).1, (h (i + 1) h2).1]; exact C.2.2.1 i h1 h2
  · intro i h1 h2
    rw [(h i (by omega)).1, (h i (by omega)).2, (h (i + 1) h2).1, (h (i + 1) h2).2]; exact C.2.2.2.1 i h1 h2
  · rw [(h b hb).1, (h b hb).2, (h (n - 1) (by omega)).1, (h (n - 1) (by omega)).2]; exact C.2.2.2.2
end
section
/-! the closed way round: every edge has all points on its left, those on its line between its ends -/
def hu_bt (px py qx qy rx ry : Int) : Prop := ((px ≤ rx ∧ rx ≤ qx) ∨ (qx ≤ rx ∧ rx ≤ px)) ∧ ((py ≤ ry ∧ ry ≤ qy) ∨ (qy ≤ ry ∧ ry ≤ py))
def hu_Sup (R : Int → Int → Prop) (px py qx qy : Int) : Prop := ∀ x y, R x y → 0 ≤ hu_tn px py qx qy x y ∧ (hu_tn px py qx qy x y = 0 → hu_bt px py qx qy x y)
def hu_nx (m i : Nat) : Nat := if i + 1 < m then i + 1 else 0
theorem hu_nx1 {m i : Nat} (h : i + 1 < m) : hu_nx m i = i + 1 := if_pos h
theorem hu_nx0 {m i : Nat} (h : m ≤ i + 1) : hu_nx m i = 0 := if_neg (by omega)
theorem hu_nxl {m i : Nat} (h : 0 < m) : hu_nx m i < m := by
  rcases Nat.lt_or_ge (i + 1) m with z | z
  · rw [hu_nx1 z]; exact z
  · rw [hu_nx0 z]; exact h
def hu_OK (R : Int → Int → Prop) (m : Nat) (X Y : Nat → Int) : Prop :=
  (∀ i, i < m → R (X i) (Y i)) ∧ (m = 0 → ∀ x y, ¬ R x y) ∧ (∀ x y, R x y → X 0 < x ∨ (X 0 = x ∧ Y 0 ≤ y)) ∧
  (∀ i, i < m → hu_Sup R (X i) (Y i) (X (hu_nx m i)) (Y (hu_nx m i))) ∧ (∀ i, 0 < i → i < m → ¬ (X i = X 0 ∧ Y i = Y 0))
theorem hu_tgt {R : Int → Int → Prop} {px py qx qy sx sy : Int} (h1 : hu_Sup R px py qx qy) (h2 : hu_Sup R px py sx sy) (r1 : R qx qy) (r2 : R sx sy) : qx = sx ∧ qy = sy := by
  obtain ⟨a1, a2⟩ := h1 _ _ r2
  obtain ⟨b1, b2⟩ := h2 _ _ r1
  have e := hu_sw px py qx qy sx sy
  have c1 := a2 (by omega)
  have c2 := b2 (by omega)
  unfold hu_bt at c1 c2
  omega
theorem hu_un0 {R : Int → Int → Prop} {m m' : Nat} {X Y X' Y' : Nat → Int} (h : hu_OK R m X Y) (h' : hu_OK R m' X' Y') : ∀ i, i < m → i < m' → X i = X' i ∧ Y i = Y' i := by
  intro i
  induction i with
  | zero =>
    intro a b
    have r1 := h.1 0 a
    have r2 := h'.1 0 b
    have c1 := h.2.2.1 _ _ r2
    have c2 := h'.2.2.1 _ _ r1
    omega
  | succ i ih =>
    intro a b
    obtain ⟨e1, e2⟩ := ih (by omega) (by omega)
    have s1 := h.2.2.2.1 i (by omega)
    have s2 := h'.2.2.2.1 i (by omega)
    rw [hu_nx1 a] at s1
    rw [hu_nx1 b, ← e1, ← e2] at s2
    exact hu_tgt s1 s2 (h.1 _ a) (h'.1 _ b)
theorem hu_un1 {R : Int → Int → Prop} {m m' : Nat} {X Y X' Y' : Nat → Int} (h : hu_OK R m X Y) (h' : hu_OK R m' X' Y') : ¬ m < m' := by
  intro l
  rcases Nat.eq_zero_or_pos m with z | z
  · exact h.2.1 z _ _ (h'.1 0 (by omega))
  · obtain ⟨e1, e2⟩ := hu_un0 h h' (m - 1) (by omega) (by omega)
    obtain ⟨f1, f2⟩ := hu_un0 h h' 0 z (by omega)
    have s1 := h.2.2.2.1 (m - 1) (by omega)
    have s2 := h'.2.2.2.1 (m - 1) (by omega)
    have k : m - 1 + 1 = m := by omega
    rw [hu_nx0 (by omega)] at s1
    rw [hu_nx1 (by omega), ← e1, ← e2, k] at s2
    obtain ⟨g1, g2⟩ := hu_tgt s1 s2 (h.1 0 z) (h'.1 m l)
    exact h'.2.2.2.2 m z l ⟨by omega, by omega⟩
theorem hu_un {R : Int → Int → Prop} {m m' : Nat} {X Y X' Y' : Nat → Int} (h : hu_OK R m X Y) (h' : hu_OK R m' X' Y') : m' = m ∧ ∀ i, i < m → X' i = X i ∧ Y' i = Y i := by
  have a := hu_un1 h h'
  have b := hu_un1 h' h
  have e : m' = m := by omega
  refine ⟨e, fun i hi => ?_⟩
  obtain ⟨c, d⟩ := hu_un0 h h' i hi (by omega)
  exact ⟨c.symm, d.symm⟩
theorem hu_ds0 {R : Int → Int → Prop} {m : Nat} {X Y : Nat → Int} (h : hu_OK R m X Y) {i j : Nat} (hij : i < j) (e : X i = X j ∧ Y i = Y j) : ∀ k, j + k < m → X (i + k) = X (j + k) ∧ Y (i + k) = Y (j + k) := by
  intro k
  induction k with
  | zero => intro _; exact e
  | succ k ih =>
    intro hk
    obtain ⟨e1, e2⟩ := ih (by omega)
    have s1 := h.2.2.2.1 (i + k) (by omega)
    have s2 := h.2.2.2.1 (j + k) (by omega)
    rw [hu_nx1 (by omega)] at s1
    rw [hu_nx1 (by omega), ← e1, ← e2] at s2
    exact hu_tgt s1 s2 (h.1 _ (by omega)) (h.1 _ (by omega))
theorem hu_ds1 {R : Int → Int → Prop} {m : Nat} {X Y : Nat → Int} (h : hu_OK R m X Y) {i j : Nat} (hij : i < j) (hj : j < m) : ¬ (X i = X j ∧ Y i = Y j) := by
  intro e
  obtain ⟨e1, e2⟩ := hu_ds0 h hij e (m - 1 - j) (by omega)
  have k : j + (m - 1 - j) = m - 1 := by omega
  rw [k] at e1 e2
  have s1 := h.2.2.2.1 (i + (m - 1 - j)) (by omega)
  have s2 := h.2.2.2.1 (m - 1) (by omega)
  rw [hu_nx1 (by omega)] at s1
  rw [hu_nx0 (by omega), ← e1, ← e2] at s2
  have g := hu_tgt s1 s2 (h.1 _ (by omega)) (h.1 0 (by omega))
  exact h.2.2.2.2 _ (by omega) (by omega) g
theorem hu_ds {R : Int → Int → Prop} {m : Nat} {X Y : Nat → Int} (h : hu_OK R m X Y) {i j : Nat} (hi : i < m) (hj : j < m) (e : X i = X j ∧ Y i = Y j) : i = j := by
  rcases Nat.lt_trichotomy i j with z | z | z
  · exact absurd e (hu_ds1 h z hj)
  · exact z
  · exact absurd ⟨e.1.symm, e.2.symm⟩ (hu_ds1 h z hi)
/-! a point strictly inside a segment -/
def hu_in (ax ay bx bz rx ry : Int) : Prop := hu_tn ax ay bx bz rx ry = 0 ∧ hu_bt ax ay bx bz rx ry ∧ ¬ (rx = ax ∧ ry = ay) ∧ ¬ (rx = bx ∧ ry = bz)
theorem hu_sg {ax ay bx bz rx ry : Int} (h : hu_in ax ay bx bz rx ry) : (ax < rx ∧ rx < bx) ∨ (bx < rx ∧ rx < ax) ∨ (ay < ry ∧ ry < bz) ∨ (bz < ry ∧ ry < ay) := by
  obtain ⟨h1, h2, h3, h4⟩ := h
  unfold hu_bt at h2
  unfold hu_tn at h1
  by_cases e : ax = bx
  · omega
  · have k1 : rx ≠ ax := by
      intro z
      rw [z, show ax - ax = 0 from by omega, Int.mul_zero, Int.sub_zero] at h1
      rcases Int.mul_eq_zero.mp h1 with w | w <;> omega
    have k2 : rx ≠ bx := by
      intro z
      have h5 : (bx - ax) * (ry - bz) = 0 := by
        rw [z] at h1
        have : (bx - ax) * (ry - bz) = (bx - ax) * (ry - ay) - (bz - ay) * (bx - ax) := by grind
        omega
      rcases Int.mul_eq_zero.mp h5 with w | w <;> omega
    omega
theorem hu_ix (ax ay bx bz px py qx qy rx ry : Int) : (bx - rx) * hu_tn px py qx qy ax ay + (rx - ax) * hu_tn px py qx qy bx bz = (bx - ax) * hu_tn px py qx qy rx ry - (qx - px) * hu_tn ax ay bx bz rx ry := by
  unfold hu_tn; grind
theorem hu_iy (ax ay bx bz px py qx qy rx ry : Int) : (bz - ry) * hu_tn px py qx qy ax ay + (ry - ay) * hu_tn px py qx qy bx bz = (bz - ay) * hu_tn px py qx qy rx ry - (qy - py) * hu_tn ax ay bx bz rx ry := by
  unfold hu_tn; grind
theorem hu_z2 {a b s t : Int} (h1 : 0 < a) (h2 : 0 < b) (h3 : 0 ≤ s) (h4 : 0 ≤ t) (h : a * s + b * t = 0) : s = 0 ∧ t = 0 := by
  have u := Int.mul_nonneg (Int.le_of_lt h1) h3
  have v := Int.mul_nonneg (Int.le_of_lt h2) h4
  have u0 : a * s = 0 := by omega
  have v0 : b * t = 0 := by omega
  rcases Int.mul_eq_zero.mp u0 with w | w <;> rcases Int.mul_eq_zero.mp v0 with w' | w' <;> omega
theorem hu_z3 {a b s t : Int} (h1 : a < 0) (h2 : b < 0) (h3 : 0 ≤ s) (h4 : 0 ≤ t) (h : a * s + b * t = 0) : s = 0 ∧ t = 0 := by
  refine hu_z2 (a := -a) (b := -b) (by omega) (by omega) h3 h4 ?_
  rw [Int.neg_mul, Int.neg_mul]
  omega
/-- both ends of a segment left of or on a line, an inner point on it: the ends are on it -/
theorem hu_A {ax ay bx bz px py qx qy rx ry : Int} (h : hu_in ax ay bx bz rx ry) (ha : 0 ≤ hu_tn px py qx qy ax ay) (hb : 0 ≤ hu_tn px py qx qy bx bz) (hr : hu_tn px py qx qy rx ry = 0) : hu_tn px py qx qy ax ay = 0 ∧ hu_tn px py qx qy bx bz = 0 := by
  have ex := hu_ix ax ay bx bz px py qx qy rx ry
  have ey := hu_iy ax ay bx bz px py qx qy rx ry
  rw [h.1, hr, Int.mul_zero, Int.mul_zero, Int.sub_zero] at ex ey
  rcases hu_sg h with z | z | z | z
  · exact hu_z2 (by omega) (by omega) ha hb ex
  · exact hu_z3 (by omega) (by omega) ha hb ex
  · exact hu_z2 (by omega) (by omega) ha hb ey
  · exact hu_z3 (by omega) (by omega) ha hb ey
theorem hu_self (px py qx qy : Int) : hu_tn px py qx qy px py = 0 := by unfold hu_tn; grind
theorem hu_self2 (px py qx qy : Int) : hu_tn px py qx qy qx qy = 0 := by unfold hu_tn; grind
/-- no corner lies strictly inside a segment of points -/
theorem hu_S {R : Int → Int → Prop} {ax ay bx bz rx ry qx qy : Int} (h : hu_in ax ay bx bz rx ry) (ra : R ax ay) (rb : R bx bz) (hs : hu_Sup R rx ry qx qy) : False := by
  obtain ⟨a1, a2⟩ := hs _ _ ra
  obtain ⟨b1, b2⟩ := hs _ _ rb
  obtain ⟨c1, c2⟩ := hu_A h a1 b1 (hu_self rx ry qx qy)
  have d1 := a2 c1
  have d2 := b2 c2
  unfold hu_bt at d1 d2
  rcases hu_sg h with z | z | z | z <;> omega
/-- a point of edge i, its far end left out -/
def hu_on (m : Nat) (X Y : Nat → Int) (i : Nat) (x y : Int) : Prop :=
  hu_tn (X i) (Y i) (X (hu_nx m i)) (Y (hu_nx m i)) x y = 0 ∧ hu_bt (X i) (Y i) (X (hu_nx m i)) (Y (hu_nx m i)) x y ∧ ¬ (x = X (hu_nx m i) ∧ y = Y (hu_nx m i))
theorem hu_onU {R : Int → Int → Prop} {m : Nat} {X Y : Nat → Int} (h : hu_OK R m X Y) (hm : 3 ≤ m) {x y : Int} (hr : R x y) {i j : Nat} (hi : i < m) (hj : j < m) (oi : hu_on m X Y i x y) (oj : hu_on m X Y j x y) : i = j := by
  have ni : hu_nx m i < m := hu_nxl (by omega)
  have nj : hu_nx m j < m := hu_nxl (by omega)
  have key : ∀ k l, k < m → l < m → hu_on m X Y l (X k) (Y k) → k = l := by
    intro k l hk hl o
    by_cases e : X k = X l ∧ Y k = Y l
    · exact hu_ds h hk hl e
    · exact (hu_S (R := R) ⟨o.1, o.2.1, e, o.2.2⟩ (h.1 l hl) (h.1 _ (hu_nxl (by omega))) (h.2.2.2.1 k hk)).elim
  by_cases ei : x = X i ∧ y = Y i
  · rw [ei.1, ei.2] at oj
    exact key i j hi hj oj
  · by_cases ej : x = X j ∧ y = Y j
    · rw [ej.1, ej.2] at oi
      exact (key j i hj hi oi).symm
    · have si : hu_in (X i) (Y i) (X (hu_nx m i)) (Y (hu_nx m i)) x y := ⟨oi.1, oi.2.1, ei, oi.2.2⟩
      have pj := h.2.2.2.1 j hj
      obtain ⟨a1, a2⟩ := pj _ _ (h.1 i hi)
      obtain ⟨b1, b2⟩ := pj _ _ (h.1 _ ni)
      obtain ⟨c1, c2⟩ := hu_A si a1 b1 oj.1
      have d1 := a2 c1
      have d2 := b2 c2
      by_cases e1 : X i = X (hu_nx m j) ∧ Y i = Y (hu_nx m j)
      · have f1 : i = hu_nx m j := hu_ds h hi nj e1
        by_cases e2 : X (hu_nx m i) = X (hu_nx m j) ∧ Y (hu_nx m i) = Y (hu_nx m j)
        · have f2 : hu_nx m i = hu_nx m j := hu_ds h ni nj e2
          exfalso
          rcases Nat.lt_or_ge (i + 1) m with z | z
          · rw [hu_nx1 z] at f2; omega
          · rw [hu_nx0 z] at f2; omega
        · have f3 := key (hu_nx m i) j ni hj ⟨c2, d2, e2⟩
          exfalso
          rcases Nat.lt_or_ge (i + 1) m with z | z
          · rw [hu_nx1 z] at f3
            rcases Nat.lt_or_ge (j + 1) m with w | w
            · rw [hu_nx1 w] at f1; omega
            · rw [hu_nx0 w] at f1; omega
          · rw [hu_nx0 z] at f3
            rcases Nat.lt_or_ge (j + 1) m with w | w
            · rw [hu_nx1 w] at f1; omega
            · rw [hu_nx0 w] at f1; omega
      · exact key i j hi hj ⟨c1, d1, e1⟩
theorem hu_onE {R : Int → Int → Prop} {m : Nat} {X Y : Nat → Int} (h : hu_OK R m X Y) (hm : 3 ≤ m) {x y : Int} (hr : R x y) : (∃ i, i < m ∧ hu_on m X Y i x y) ↔ ∃ i, i < m ∧ hu_tn (X i) (Y i) (X (hu_nx m i)) (Y (hu_nx m i)) x y = 0 := by
  constructor
  · rintro ⟨i, hi, o⟩
    exact ⟨i, hi, o.1⟩
  · rintro ⟨i, hi, e⟩
    have ni : hu_nx m i < m := hu_nxl (by omega)
    by_cases c : x = X (hu_nx m i) ∧ y = Y (hu_nx m i)
    · refine ⟨hu_nx m i, ni, ?_⟩
      unfold hu_on
      rw [c.1, c.2]
      refine ⟨hu_self _ _ _ _, ?_, ?_⟩
      · unfold hu_bt; omega
      · intro z
        have f := hu_ds h ni (hu_nxl (by omega)) z
        rcases Nat.lt_or_ge (hu_nx m i + 1) m with w | w
        · rw [hu_nx1 w] at f; omega
        · rw [hu_nx0 w] at f; omega
    · exact ⟨i, hi, e, (h.2.2.2.1 i hi x y hr).2 e, c⟩
end
section
/-! the two scans over the columns end in the closed way round -/
theorem hu_bx {px py qx qy rx ry : Int} (h : px < qx) (h1 : px ≤ rx) (h2 : rx ≤ qx) (e : hu_tn px py qx qy rx ry = 0) : hu_bt px py qx qy rx ry := by
  refine ⟨Or.inl ⟨h1, h2⟩, ?_⟩
  unfold hu_tn at e
  have e1 : (qx - px) * (ry - py) = (qy - py) * (rx - px) := by omega
  have e2 : (qx - px) * (qy - ry) = (qy - py) * (qx - rx) := by grind
  have e3 : (qx - px) * (py - ry) = (py - qy) * (rx - px) := by grind
  have e4 : (qx - px) * (ry - qy) = (py - qy) * (qx - rx) := by grind
  rcases Int.le_total py qy with z | z
  · left
    have a := Int.mul_nonneg (a := qy - py) (b := rx - px) (by omega) (by omega)
    have b := Int.mul_nonneg (a := qy - py) (b := qx - rx) (by omega) (by omega)
    have c := hu_p1 (d := qx - px) (t := ry - py) (by omega) (by omega)
    have d := hu_p1 (d := qx - px) (t := qy - ry) (by omega) (by omega)
    omega
  · right
    have a := Int.mul_nonneg (a := py - qy) (b := rx - px) (by omega) (by omega)
    have b := Int.mul_nonneg (a := py - qy) (b := qx - rx) (by omega) (by omega)
    have c := hu_p1 (d := qx - px) (t := py - ry) (by omega) (by omega)
    have d := hu_p1 (d := qx - px) (t := ry - qy) (by omega) (by omega)
    omega
theorem hu_btn {px py qx qy rx ry : Int} (h : hu_bt (-px) (-py) (-qx) (-qy) (-rx) (-ry)) : hu_bt px py qx qy rx ry := by
  unfold hu_bt at h ⊢; omega
theorem hu_mono {X Y : Nat → Int} {Q : Int → Int → Prop} {b n : Nat} (C : hu_CH X Y Q b n) {i : Nat} (hi : b ≤ i) : ∀ k, i + k + 1 < n → X i < X (i + k + 1) := by
  intro k
  induction k with
  | zero => intro h; exact C.2.2.1 i hi h
  | succ k ih =>
    intro h
    have a := ih (by omega)
    have c := C.2.2.1 (i + k + 1) (by omega) (by omega)
    have e : i + (k + 1) + 1 = i + k + 1 + 1 := by omega
    rw [e]
    omega
/-- column k of the points, from lo to hi -/
def hu_col (R : Int → Int → Prop) (k : Nat) (lo hi : Int) : Prop := 0 ≤ lo ∧ hi ≤ 40 ∧ ∀ y, R (k : Int) y ↔ lo ≤ y ∧ y ≤ hi
def hu_bnd (R : Int → Int → Prop) : Prop := ∀ x y, R x y → 0 ≤ x ∧ x ≤ 40
def hu_QL (R : Int → Int → Prop) (k : Nat) (x y : Int) : Prop := R x y ∧ x < (k : Int)
def hu_LI (R : Int → Int → Prop) (k n : Nat) (la : Int) (X Y : Nat → Int) : Prop :=
  (n = 0 ∧ la = -1 ∧ ∀ x y, ¬ hu_QL R k x y) ∨ (0 < n ∧ n ≤ k ∧ hu_CH X Y (hu_QL R k) 0 n ∧ X (n - 1) = la ∧ 0 ≤ la)
def hu_LP (R : Int → Int → Prop) (k n : Nat) (X Y : Nat → Int) (px py : Int) (t : Nat) : Prop :=
  (n = 0 ∧ t = 0) ∨ (0 < t ∧ t ≤ n ∧ hu_PO X Y (hu_QL R k) px py 0 t)
theorem hu_l0 {R : Int → Int → Prop} (hR : hu_bnd R) (X Y : Nat → Int) : hu_LI R 0 0 (-1) X Y :=
  Or.inl ⟨rfl, rfl, fun x y q => by have h1 := hR x y q.1; have h2 := q.2; omega⟩
theorem hu_lskip {R : Int → Int → Prop} {k n : Nat} {la lo hi : Int} {X Y : Nat → Int} (c : hu_col R k lo hi) (h : hi < lo) (I : hu_LI R k n la X Y) : hu_LI R (k + 1) n la X Y := by
  have e : ∀ x y, hu_QL R (k + 1) x y ↔ hu_QL R k x y := by
    intro x y
    constructor
    · rintro ⟨r, l⟩
      refine ⟨r, ?_⟩
      rcases hu_lg x k with z | z
      · exact z
      · have ex : x = (k : Int) := by omega
        rw [ex] at r
        have := (c.2.2 y).mp r
        omega
    · rintro ⟨r, l⟩
      exact ⟨r, by omega⟩
  rcases I with ⟨a, b, d⟩ | ⟨a, b, C, d, f⟩
  · exact Or.inl ⟨a, b, fun x y q => d x y ((e x y).mp q)⟩
  · exact Or.inr ⟨a, by omega, hu_chq C e, d, f⟩
theorem hu_lpush {R : Int → Int → Prop} {k n t : Nat} {la lo hi : Int} {X Y X' Y' : Nat → Int} (c : hu_col R k lo hi) (h : lo ≤ hi) (I : hu_LI R k n la X Y) (P : hu_LP R k n X Y k lo t)
    (hX : ∀ i, i < t → X' i = X i ∧ Y' i = Y i) (hX2 : X' t = k ∧ Y' t = lo) : hu_LI R (k + 1) (t + 1) k X' Y' := by
  have r3 : R (k : Int) lo := (c.2.2 lo).mpr ⟨Int.le_refl _, h⟩
  have key : ∀ x y, hu_QL R (k + 1) x y → hu_QL R k x y ∨ (x = (k : Int) ∧ lo ≤ y) := by
    rintro x y ⟨r, l⟩
    rcases hu_lg x k with z | z
    · exact Or.inl ⟨r, z⟩
    · have ex : x = (k : Int) := by omega
      rw [ex] at r
      exact Or.inr ⟨ex, ((c.2.2 y).mp r).1⟩
  have et : t + 1 - 1 = t := by omega
  refine Or.inr ⟨by omega, ?_, ?_, by rw [et]; exact hX2.1, by omega⟩
  · rcases I with ⟨a, b, d⟩ | ⟨a, b, C, d, f⟩
    · rcases P with ⟨p, q⟩ | ⟨p, q, _⟩ <;> omega
    · rcases P with ⟨p, q⟩ | ⟨p, q, _⟩ <;> omega
  · rcases I with ⟨a, b, d⟩ | ⟨a, b, C, d, f⟩
    · have t0 : t = 0 := by rcases P with ⟨p, q⟩ | ⟨p, q, _⟩ <;> omega
      rw [t0] at hX2 ⊢
      refine hu_ch1 ?_ ?_
      · intro x y q
        rcases key x y q with z | ⟨z, w⟩
        · exact absurd z (d x y)
        · exact ⟨by rw [z, hX2.1], by rw [hX2.2]; exact w⟩
      · rw [hX2.1, hX2.2]
        exact ⟨r3, by omega⟩
    · rcases P with ⟨p, q⟩ | ⟨p, q, O⟩
      · omega
      · have hp := (C.2.1 (n - 1) (by omega) (by omega)).2
        exact hu_push C hp p q O key (fun x y z => ⟨z.1, by have := z.2; omega⟩) ⟨r3, by omega⟩ hX hX2
theorem hu_lpo {R : Int → Int → Prop} {k n : Nat} {la py : Int} {X Y : Nat → Int} (I : hu_LI R k n la X Y) : ∃ t, hu_LP R k n X Y k py t := by
  rcases I with ⟨a, b, d⟩ | ⟨a, b, C, d, f⟩
  · exact ⟨0, Or.inl ⟨a, rfl⟩⟩
  · have hp := (C.2.1 (n - 1) (by omega) (by omega)).2
    obtain ⟨s, h1, h2, h3⟩ := hu_po C hp (py := py) (n - 1) n (by omega) (Nat.le_refl n) (hu_pi0 C hp)
    exact ⟨s, Or.inr ⟨h1, h2, h3⟩⟩
def hu_set (f : Nat → Int) (k : Nat) (v : Int) : Nat → Int := fun i => if i = k then v else f i
theorem hu_set1 (f : Nat → Int) (k : Nat) (v : Int) : hu_set f k v k = v := if_pos rfl
theorem hu_set2 (f : Nat → Int) {i k : Nat} (v : Int) (h : i < k) : hu_set f k v i = f i := if_neg (by omega)
theorem hu_lex {R : Int → Int → Prop} (hR : hu_bnd R) (hc : ∀ j, j < 41 → ∃ lo hi, hu_col R j lo hi) : ∀ k, k ≤ 41 → ∃ n la X Y, hu_LI R k n la X Y := by
  intro k
  induction k with
  | zero => intro _; exact ⟨0, -1, fun _ => 0, fun _ => 0, hu_l0 hR _ _⟩
  | succ k ih =>
    intro hk
    obtain ⟨n, la, X, Y, I⟩ := ih (by omega)
    obtain ⟨lo, hi, c⟩ := hc k (by omega)
    rcases hu_lg hi lo with z | z
    · exact ⟨n, la, X, Y, hu_lskip c z I⟩
    · obtain ⟨t, P⟩ := hu_lpo (py := lo) I
      exact ⟨t + 1, k, hu_set X t k, hu_set Y t lo, hu_lpush c z I P (fun i h => ⟨hu_set2 X _ h, hu_set2 Y _ h⟩) ⟨hu_set1 X t _, hu_set1 Y t _⟩⟩
/-! the second scan, from the last column down: the same turned by half a turn -/
def hu_QU (R : Int → Int → Prop) (k : Nat) (x y : Int) : Prop := R (-x) (-y) ∧ (k : Int) ≤ -x
def hu_UI (R : Int → Int → Prop) (b0 k n : Nat) (X Y : Nat → Int) : Prop := hu_CH (fun i => -X i) (fun i => -Y i) (hu_QU R k) b0 n
def hu_UB (R : Int → Int → Prop) (la b b0 : Nat) (X Y : Nat → Int) : Prop :=
  hu_CH X Y R 0 (b + 1) ∧ X b = la ∧ ((b0 = b ∧ ∀ y, R la y → y ≤ Y b) ∨ (b0 = b + 1 ∧ X b0 = la ∧ Y b < Y b0 ∧ ∀ y, R la y → y ≤ Y b0))
theorem hu_ubx {R : Int → Int → Prop} {la b b0 : Nat} {X Y X' Y' : Nat → Int} (B : hu_UB R la b b0 X Y) (h : ∀ i, i ≤ b0 → X' i = X i ∧ Y' i = Y i) : hu_UB R la b b0 X' Y' := by
  obtain ⟨C, e, d⟩ := B
  have hb : b ≤ b0 := by rcases d with d | d <;> omega
  refine ⟨hu_chx C (fun i hi => h i (by omega)), by rw [(h b hb).1]; exact e, ?_⟩
  rw [(h b hb).2, (h b0 (Nat.le_refl _)).1, (h b0 (Nat.le_refl _)).2]
  exact d
theorem hu_l41 {R : Int → Int → Prop} (hR : hu_bnd R) {X Y : Nat → Int} {n : Nat} (C : hu_CH X Y (hu_QL R 41) 0 n) : hu_CH X Y R 0 n :=
  hu_chq C (fun x y => ⟨fun r => ⟨r, by have := hR x y r; omega⟩, fun q => q.1⟩)
/-- the last column is one point: no further corner yet -/
theorem hu_u0a {R : Int → Int → Prop} {la b : Nat} {X Y : Nat → Int} {lo hi : Int} (C : hu_CH X Y R 0 (b + 1)) (e : X b = la) (c : hu_col R la lo hi) (h : lo = hi) : hu_UB R la b b X Y ∧ hu_UI R b la (b + 1) X Y := by
  have q := C.2.1 b (by omega) (by omega)
  rw [e] at q
  have q1 := (c.2.2 _).mp q
  have top : ∀ y, R la y → y ≤ Y b := by
    intro y r
    have := (c.2.2 y).mp r
    omega
  refine ⟨⟨C, e, Or.inl ⟨rfl, top⟩⟩, ?_⟩
  refine hu_ch1 ?_ ?_
  · rintro x y ⟨r, l⟩
    have o := (C.2.2.2.2 _ _ r).2.1
    have eb : b + 1 - 1 = b := by omega
    rw [eb, e] at o
    have ex : -x = (la : Int) := by omega
    rw [ex] at r
    have := top _ r
    show x = -X b ∧ -Y b ≤ y
    rw [e]
    omega
  · show R (- -X b) (- -Y b) ∧ (la : Int) ≤ - -X b
    rw [Int.neg_neg, Int.neg_neg, e]
    exact ⟨q, Int.le_refl _⟩
/-- the last column has two ends: its upper one is the first further corner -/
theorem hu_u0b {R : Int → Int → Prop} {la b : Nat} {X Y X' Y' : Nat → Int} {lo hi : Int} (C : hu_CH X Y R 0 (b + 1)) (e : X b = la) (c : hu_col R la lo hi) (h : lo < hi)
    (hX : ∀ i, i < b + 1 → X' i = X i ∧ Y' i = Y i) (hX2 : X' (b + 1) = la ∧ Y' (b + 1) = hi) : hu_UB R la b (b + 1) X' Y' ∧ hu_UI R (b + 1) la (b + 2) X' Y' := by
  have q := C.2.1 b (by omega) (by omega)
  rw [e] at q
  have q1 := (c.2.2 _).mp q
  have eb : b + 1 - 1 = b := by omega
  have lw := C.2.2.2.2 la lo ((c.2.2 _).mpr ⟨Int.le_refl _, by omega⟩)
  rw [eb, e] at lw
  have lw1 := lw.2.2.2 rfl
  refine ⟨⟨hu_chx C hX, by rw [(hX b (by omega)).1]; exact e, Or.inr ⟨rfl, hX2.1, ?_, ?_⟩⟩, ?_⟩
  · rw [(hX b (by omega)).2, hX2.2]; omega
  · intro y r
    rw [hX2.2]
    exact ((c.2.2 y).mp r).2
  · refine hu_ch1 ?_ ?_
    · rintro x y ⟨r, l⟩
      have o := (C.2.2.2.2 _ _ r).2.1
      rw [eb, e] at o
      have ex : -x = (la : Int) := by omega
      rw [ex] at r
      have := (c.2.2 _).mp r
      show x = -X' (b + 1) ∧ -Y' (b + 1) ≤ y
      rw [hX2.1, hX2.2]
      omega
    · show R (- -X' (b + 1)) (- -Y' (b + 1)) ∧ (la : Int) ≤ - -X' (b + 1)
      rw [Int.neg_neg, Int.neg_neg, hX2.1, hX2.2]
      exact ⟨(c.2.2 _).mpr ⟨by omega, Int.le_refl _⟩, Int.le_refl _⟩
theorem hu_uskip {R : Int → Int → Prop} {b0 k n : Nat} {X Y : Nat → Int} {lo hi : Int} (c : hu_col R k lo hi) (h : hi < lo) (I : hu_UI R b0 (k + 1) n X Y) : hu_UI R b0 k n X Y := by
  refine hu_chq I ?_
  intro x y
  constructor
  · rintro ⟨r, l⟩
    refine ⟨r, ?_⟩
    rcases hu_lg k (-x) with z | z
    · omega
    · have ex : -x = (k : Int) := by omega
      rw [ex] at r
      have := (c.2.2 _).mp r
      omega
  · rintro ⟨r, l⟩
    exact ⟨r, by omega⟩
theorem hu_ulast {R : Int → Int → Prop} {b0 k n : Nat} {X Y : Nat → Int} (I : hu_UI R b0 (k + 1) n X Y) : (fun i => -X i) (n - 1) < -(k : Int) := by
  have hb := I.1
  have := (I.2.1 (n - 1) (by omega) (by omega)).2
  have h2 : ((k + 1 : Nat) : Int) ≤ - -X (n - 1) := this
  show -X (n - 1) < -(k : Int)
  omega
theorem hu_upush {R : Int → Int → Prop} {b0 k n t : Nat} {X Y X' Y' : Nat → Int} {lo hi : Int} (c : hu_col R k lo hi) (h : lo ≤ hi) (I : hu_UI R b0 (k + 1) n X Y) (hbt : b0 < t) (htn : t ≤ n)
    (P : hu_PO (fun i => -X i) (fun i => -Y i) (hu_QU R (k + 1)) (-(k : Int)) (-hi) b0 t) (hX : ∀ i, i < t → X' i = X i ∧ Y' i = Y i) (hX2 : X' t = k ∧ Y' t = hi) : hu_UI R b0 k (t + 1) X' Y' := by
  refine hu_push I (hu_ulast I) hbt htn P ?_ ?_ ?_ ?_ ?_
  · rintro x y ⟨r, l⟩
    rcases hu_lg k (-x) with z | z
    · exact Or.inl ⟨r, by omega⟩
    · have ex : -x = (k : Int) := by omega
      rw [ex] at r
      have := (c.2.2 _).mp r
      exact Or.inr ⟨by omega, by omega⟩
  · rintro x y ⟨r, l⟩
    exact ⟨r, by omega⟩
  · refine ⟨?_, by omega⟩
    rw [Int.neg_neg, Int.neg_neg]
    exact (c.2.2 _).mpr ⟨h, Int.le_refl _⟩
  · intro i hi
    show -X' i = -X i ∧ -Y' i = -Y i
    rw [(hX i hi).1, (hX i hi).2]
    exact ⟨rfl, rfl⟩
  · show -X' t = -(k : Int) ∧ -Y' t = -hi
    rw [hX2.1, hX2.2]
    exact ⟨rfl, rfl⟩
theorem hu_uex {R : Int → Int → Prop} {la b b0 : Nat} (hl : la ≤ 40) (hc : ∀ j, j < 41 → ∃ lo hi, hu_col R j lo hi) : ∀ d k n X Y, k + d = la → hu_UB R la b b0 X Y → hu_UI R b0 (k + d) n X Y → ∃ n' X' Y', n' ≤ n + d ∧ hu_UB R la b b0 X' Y' ∧ hu_UI R b0 k n' X' Y' := by
  intro d
  induction d with
  | zero => intro k n X Y e B I; exact ⟨n, X, Y, Nat.le_refl _, B, I⟩
  | succ d ih =>
    intro k n X Y e B I
    have ek : k + (d + 1) = k + 1 + d := by omega
    rw [ek] at I
    obtain ⟨n1, X1, Y1, hn1, B1, I1⟩ := ih (k + 1) n X Y (by omega) B I
    obtain ⟨lo, hi, c⟩ := hc k (by omega)
    rcases hu_lg hi lo with z | z
    · exact ⟨n1, X1, Y1, by omega, B1, hu_uskip c z I1⟩
    · have hb := I1.1
      obtain ⟨s, h1, h2, h3⟩ := hu_po I1 (hu_ulast I1) (py := -hi) (n1 - b0 - 1) n1 (by omega) (Nat.le_refl _) (hu_pi0 I1 (hu_ulast I1))
      refine ⟨s + 1, hu_set X1 s k, hu_set Y1 s hi, by omega, hu_ubx B1 (fun i h => ⟨hu_set2 X1 _ (by omega), hu_set2 Y1 _ (by omega)⟩), ?_⟩
      exact hu_upush c z I1 h1 h2 h3 (fun i h => ⟨hu_set2 X1 _ h, hu_set2 Y1 _ h⟩) ⟨hu_set1 X1 s _, hu_set1 Y1 s _⟩
theorem hu_fin {R : Int → Int → Prop} {la b b0 n m : Nat} {X Y : Nat → Int} (hR : hu_bnd R) (B : hu_UB R la b b0 X Y) (I : hu_UI R b0 0 n X Y)
    (hm : (1 < n ∧ X (n - 1) = X 0 ∧ Y (n - 1) = Y 0 ∧ m + 1 = n) ∨ (¬ (1 < n ∧ X (n - 1) = X 0 ∧ Y (n - 1) = Y 0) ∧ m = n)) : hu_OK R m X Y := by
  obtain ⟨C, ela, d⟩ := B
  have hb : b ≤ b0 ∧ b0 ≤ b + 1 := by rcases d with d | d <;> omega
  have hn := I.1
  have toQ : ∀ x y, R x y → hu_QU R 0 (-x) (-y) := by
    intro x y r
    have := hR x y r
    refine ⟨?_, by omega⟩
    rw [Int.neg_neg, Int.neg_neg]; exact r
  have F1 : ∀ x y, R x y → X 0 ≤ x ∧ x ≤ X b ∧ (x = X 0 → Y 0 ≤ y) ∧ (x = X b → Y b ≤ y) := C.2.2.2.2
  have F2 : ∀ x y, R x y → x ≤ X b0 ∧ X (n - 1) ≤ x ∧ (x = X b0 → y ≤ Y b0) ∧ (x = X (n - 1) → y ≤ Y (n - 1)) := by
    intro x y r
    obtain ⟨a1, a2, a3, a4⟩ := I.2.2.2.2 _ _ (toQ x y r)
    have a1' : -X b0 ≤ -x := a1
    have a2' : -x ≤ -X (n - 1) := a2
    have a3' : -x = -X b0 → -Y b0 ≤ -y := a3
    have a4' : -x = -X (n - 1) → -Y (n - 1) ≤ -y := a4
    refine ⟨by omega, by omega, fun z => ?_, fun z => ?_⟩
    · have := a3' (by omega); omega
    · have := a4' (by omega); omega
  have F3 : ∀ i, i < n → R (X i) (Y i) := by
    intro i hi
    rcases Nat.lt_or_ge i (b + 1) with z | z
    · exact C.2.1 i (by omega) z
    · have q : hu_QU R 0 (-X i) (-Y i) := I.2.1 i (by omega) hi
      have r := q.1
      rw [Int.neg_neg, Int.neg_neg] at r
      exact r
  have r0 := F3 0 (by omega)
  have rl := F3 (n - 1) (by omega)
  have x0 : X (n - 1) = X 0 := by
    have a := (F1 _ _ rl).1
    have c := (F2 _ _ r0).2.1
    omega
  have F4 : ∀ i, i + 1 < n → hu_Sup R (X i) (Y i) (X (i + 1)) (Y (i + 1)) := by
    intro i hi x y r
    rcases Nat.lt_or_ge i b with z | z
    · obtain ⟨g1, g2⟩ := C.2.2.2.1 i (by omega) (by omega) x y r
      have m1 := C.2.2.1 i (by omega) (by omega)
      exact ⟨g1, fun e => hu_bx m1 (g2 e).1 (g2 e).2 e⟩
    · rcases Nat.lt_or_ge i b0 with w | w
      · have ei : i = b := by omega
        rcases d with d | d
        · omega
        · obtain ⟨d1, d2, d3, d4⟩ := d
          rw [ei, ← d1, ela, d2]
          have o1 := F1 x y r
          have o2 := F2 x y r
          rw [ela] at o1
          have et : hu_tn (la : Int) (Y b) (la : Int) (Y b0) x y = (Y b0 - Y b) * ((la : Int) - x) := by unfold hu_tn; grind
          rw [et]
          refine ⟨Int.mul_nonneg (by omega) (by omega), fun e => ?_⟩
          have ex : x = (la : Int) := by
            rcases Int.mul_eq_zero.mp e with u | u <;> omega
          have g1 := o1.2.2.2 ex
          have g2 := o2.2.2.1 (by omega)
          unfold hu_bt
          omega
      · obtain ⟨g1, g2⟩ := I.2.2.2.1 i w hi _ _ (toQ x y r)
        have m1 : -X i < -X (i + 1) := I.2.2.1 i w hi
        have g1' : 0 ≤ hu_tn (-X i) (-Y i) (-X (i + 1)) (-Y (i + 1)) (-x) (-y) := g1
        have g2' : hu_tn (-X i) (-Y i) (-X (i + 1)) (-Y (i + 1)) (-x) (-y) = 0 → -X i ≤ -x ∧ -x ≤ -X (i + 1) := g2
        have en := hu_ng (X i) (Y i) (X (i + 1)) (Y (i + 1)) x y
        refine ⟨by omega, fun e => ?_⟩
        have e' : hu_tn (-X i) (-Y i) (-X (i + 1)) (-Y (i + 1)) (-x) (-y) = 0 := by omega
        exact hu_btn (hu_bx m1 (g2' e').1 (g2' e').2 e')
  have hm0 : 0 < m := by rcases hm with h | h <;> omega
  refine ⟨fun i hi => F3 i (by rcases hm with h | h <;> omega), fun z => by omega, ?_, ?_, ?_⟩
  · intro x y r
    have := F1 x y r
    rcases hu_lg (X 0) x with z | z
    · exact Or.inl z
    · exact Or.inr ⟨by omega, this.2.2.1 (by omega)⟩
  · intro i hi
    rcases Nat.lt_or_ge (i + 1) n with z | z
    · rcases Nat.lt_or_ge (i + 1) m with w | w
      · rw [hu_nx1 w]; exact F4 i z
      · rw [hu_nx0 w]
        rcases hm with h | h
        · have ei : n - 1 = i + 1 := by omega
          rw [← h.2.1, ← h.2.2.1, ei]
          exact F4 i z
        · omega
    · rcases hm with h | h
      · omega
      · have ei : i = n - 1 := by omega
        rw [hu_nx0 (by omega), ei, x0]
        intro x y r
        have o1 := F1 x y r
        have o2 := F2 x y r
        have yl := (F1 _ _ rl).2.2.1 x0
        have et : hu_tn (X 0) (Y (n - 1)) (X 0) (Y 0) x y = (Y (n - 1) - Y 0) * (x - X 0) := by unfold hu_tn; grind
        rw [et]
        refine ⟨Int.mul_nonneg (by omega) (by omega), fun e => ?_⟩
        have ex : x = X 0 := by
          rcases Int.mul_eq_zero.mp e with u | u
          · have n1 : ¬ 1 < n := fun l => h.1 ⟨l, x0, by omega⟩
            have b00 : b0 = 0 := by omega
            have o3 := o2.1
            rw [b00] at o3
            omega
          · omega
        have g1 := o1.2.2.1 ex
        have g2 := o2.2.2.2 (by omega)
        unfold hu_bt
        omega
  · intro i h0 hi
    have hin : i < n := by rcases hm with h | h <;> omega
    rcases Nat.lt_or_ge i (b + 1) with z | z
    · have := hu_mono C (i := 0) (Nat.le_refl 0) (i - 1) (by omega)
      have e : 0 + (i - 1) + 1 = i := by omega
      rw [e] at this
      omega
    · rcases Nat.lt_or_ge i (n - 1) with w | w
      · have := hu_mono I (i := i) (by omega) (n - 1 - i - 1) (by omega)
        have e : i + (n - 1 - i - 1) + 1 = n - 1 := by omega
        rw [e] at this
        have t2 : -X i < -X (n - 1) := this
        omega
      · have ei : i = n - 1 := by omega
        rw [ei]
        rcases hm with h | h
        · omega
        · intro q
          exact h.1 ⟨by omega, q.1, q.2⟩
theorem hu_ok0 {R : Int → Int → Prop} (h : ∀ x y, ¬ R x y) (X Y : Nat → Int) : hu_OK R 0 X Y :=
  ⟨fun i hi => by omega, fun _ => h, fun x y r => absurd r (h x y), fun i hi => by omega, fun i _ hi => by omega⟩
/-- there is such a way round -/
theorem hu_ex {R : Int → Int → Prop} (hR : hu_bnd R) (hc : ∀ j, j < 41 → ∃ lo hi, hu_col R j lo hi) : ∃ m X Y, m ≤ 82 ∧ hu_OK R m X Y := by
  obtain ⟨n, la, X, Y, I⟩ := hu_lex hR hc 41 (Nat.le_refl _)
  rcases I with ⟨a, b, d⟩ | ⟨a, b, C, d, f⟩
  · refine ⟨0, X, Y, by omega, hu_ok0 (fun x y r => d x y ⟨r, ?_⟩) X Y⟩
    have := hR x y r; omega
  · have C1 := hu_l41 hR C
    have q := hR _ _ (C1.2.1 (n - 1) (by omega) (by omega))
    obtain ⟨lw, rfl⟩ : ∃ lw : Nat, la = (lw : Int) := ⟨la.toNat, by omega⟩
    obtain ⟨lo, hi, c⟩ := hc lw (by omega)
    obtain ⟨s, rfl⟩ : ∃ s, n = s + 1 := ⟨n - 1, by omega⟩
    have es : s + 1 - 1 = s := by omega
    rw [es] at d q
    have rr := C1.2.1 s (by omega) (by omega)
    rw [d] at rr
    have r2 := (c.2.2 _).mp rr
    have main : ∃ b0 n' X' Y', n' ≤ 82 ∧ hu_UB R lw s b0 X' Y' ∧ hu_UI R b0 0 n' X' Y' := by
      rcases hu_lg lo hi with z | z
      · obtain ⟨B, U⟩ := hu_u0b (X' := hu_set X (s + 1) lw) (Y' := hu_set Y (s + 1) hi) C1 d c z (fun i h => ⟨hu_set2 X _ h, hu_set2 Y _ h⟩) ⟨hu_set1 X _ _, hu_set1 Y _ _⟩
        obtain ⟨n', X', Y', hn', B', U'⟩ := hu_uex (by omega) hc lw 0 _ _ _ (by omega) B (by rw [Nat.zero_add]; exact U)
        exact ⟨_, n', X', Y', by omega, B', U'⟩
      · obtain ⟨B, U⟩ := hu_u0a C1 d c (by omega)
        obtain ⟨n', X', Y', hn', B', U'⟩ := hu_uex (by omega) hc lw 0 _ _ _ (by omega) B (by rw [Nat.zero_add]; exact U)
        exact ⟨_, n', X', Y', by omega, B', U'⟩
    obtain ⟨b0, n', X', Y', hn', B', U'⟩ := main
    by_cases hh : 1 < n' ∧ X' (n' - 1) = X' 0 ∧ Y' (n' - 1) = Y' 0
    · exact ⟨n' - 1, X', Y', by omega, hu_fin hR B' U' (Or.inl ⟨hh.1, hh.2.1, hh.2.2, by omega⟩)⟩
    · exact ⟨n', X', Y', hn', hu_fin hR B' U' (Or.inr ⟨hh, rfl⟩)⟩
end
section
/-! a linear form is greatest at a corner -/
theorem hu_p3 {d t e s : Int} (h : d * t = e * s) (hs : s ≤ 0) (hd : (0 < d ∧ 0 ≤ e) ∨ (d < 0 ∧ e ≤ 0)) : t ≤ 0 := by
  rcases hu_lg 0 t with z | z
  · rcases hd with ⟨a, b⟩ | ⟨a, b⟩
    · have u := Int.mul_pos a z
      have v := Int.mul_nonpos_of_nonneg_of_nonpos b hs
      omega
    · have u := Int.mul_neg_of_neg_of_pos a z
      have v := Int.mul_nonneg_of_nonpos_of_nonpos b hs
      omega
  · exact z
theorem hu_seg {ax ay bx bz rx ry p q : Int} (h : hu_tn ax ay bx bz rx ry = 0) (b : hu_bt ax ay bx bz rx ry) (hf : p * bx + q * bz ≤ p * ax + q * ay) : p * rx + q * ry ≤ p * ax + q * ay := by
  unfold hu_bt at b
  unfold hu_tn at h
  have es : p * (bx - ax) + q * (bz - ay) ≤ 0 := by
    have : p * (bx - ax) + q * (bz - ay) = p * bx + q * bz - (p * ax + q * ay) := by grind
    omega
  have et : p * (rx - ax) + q * (ry - ay) = p * rx + q * ry - (p * ax + q * ay) := by grind
  have e1 : (bx - ax) * (p * (rx - ax) + q * (ry - ay)) = (rx - ax) * (p * (bx - ax) + q * (bz - ay)) := by grind
  have e2 : (bz - ay) * (p * (rx - ax) + q * (ry - ay)) = (ry - ay) * (p * (bx - ax) + q * (bz - ay)) := by grind
  have key : p * (rx - ax) + q * (ry - ay) ≤ 0 := by
    by_cases c : bx = ax
    · by_cases c2 : bz = ay
      · have c3 : rx = ax := by omega
        have c4 : ry = ay := by omega
        rw [c3, c4, show ax - ax = 0 from by omega, show ay - ay = 0 from by omega, Int.mul_zero, Int.mul_zero]
        omega
      · exact hu_p3 e2 es (by omega)
    · exact hu_p3 e1 es (by omega)
  omega
theorem hu_cone (ax ay ux uy vx vy rx ry p q : Int) : hu_tn ax ay ux uy vx vy * (p * rx + q * ry - (p * ax + q * ay)) = hu_tn vx vy ax ay rx ry * (p * ux + q * uy - (p * ax + q * ay)) + hu_tn ax ay ux uy rx ry * (p * vx + q * vy - (p * ax + q * ay)) := by
  unfold hu_tn; grind
def hu_pv (m i : Nat) : Nat := if i = 0 then m - 1 else i - 1
theorem hu_pvl {m i : Nat} (h : i < m) : hu_pv m i < m := by
  unfold hu_pv; split <;> omega
theorem hu_nxpv {m i : Nat} (h : i < m) : hu_nx m (hu_pv m i) = i := by
  unfold hu_pv hu_nx; split <;> split <;> omega
theorem hu_max {R : Int → Int → Prop} {m : Nat} {X Y : Nat → Int} (h : hu_OK R m X Y) {p q : Int} {i : Nat} (hi : i < m) (hx : ∀ j, j < m → p * X j + q * Y j ≤ p * X i + q * Y i) : ∀ x y, R x y → p * x + q * y ≤ p * X i + q * Y i := by
  intro x y r
  have hj := hu_pvl hi
  have en := hu_nxpv hi
  have ni : hu_nx m i < m := hu_nxl (by omega)
  have si := h.2.2.2.1 i hi
  have sj := h.2.2.2.1 _ hj
  rw [en] at sj
  generalize hu_pv m i = j at hj sj en
  generalize hu_nx m i = k at ni si
  obtain ⟨a1, a2⟩ := si x y r
  obtain ⟨b1, b2⟩ := sj x y r
  obtain ⟨c1, c2⟩ := si _ _ (h.1 j hj)
  have fk := hx k ni
  have fj := hx j hj
  rcases hu_lg 0 (hu_tn (X i) (Y i) (X k) (Y k) (X j) (Y j)) with z | z
  · have e := hu_cone (X i) (Y i) (X k) (Y k) (X j) (Y j) x y p q
    have u := Int.mul_nonpos_of_nonneg_of_nonpos (a := hu_tn (X j) (Y j) (X i) (Y i) x y) (b := p * X k + q * Y k - (p * X i + q * Y i)) b1 (by omega)
    have v := Int.mul_nonpos_of_nonneg_of_nonpos (a := hu_tn (X i) (Y i) (X k) (Y k) x y) (b := p * X j + q * Y j - (p * X i + q * Y i)) a1 (by omega)
    rcases hu_lg (p * X i + q * Y i) (p * x + q * y) with w | w
    · have t := Int.mul_pos (a := hu_tn (X i) (Y i) (X k) (Y k) (X j) (Y j)) (b := p * x + q * y - (p * X i + q * Y i)) z (by omega)
      omega
    · exact w
  · have z0 : hu_tn (X i) (Y i) (X k) (Y k) (X j) (Y j) = 0 := by omega
    have bj := c2 z0
    by_cases e1 : X j = X i ∧ Y j = Y i
    · rw [e1.1, e1.2] at b2
      have t0 : hu_tn (X i) (Y i) (X i) (Y i) x y = 0 := by unfold hu_tn; grind
      have g := b2 t0
      unfold hu_bt at g
      have g1 : x = X i := by omega
      have g2 : y = Y i := by omega
      rw [g1, g2]
      exact Int.le_refl _
    · by_cases e2 : X j = X k ∧ Y j = Y k
      · rw [e2.1, e2.2] at b1
        have t1 : hu_tn (X k) (Y k) (X i) (Y i) x y = - hu_tn (X i) (Y i) (X k) (Y k) x y := by unfold hu_tn; grind
        have t0 : hu_tn (X i) (Y i) (X k) (Y k) x y = 0 := by omega
        exact hu_seg t0 (a2 t0) fk
      · exact (hu_S (R := R) ⟨z0, bj, e1, e2⟩ (h.1 i hi) (h.1 k ni) (h.2.2.2.1 j hj)).elim
end
section
/-! sums and counts -/
noncomputable def hu_b (P : Prop) : Nat := @ite Nat P (Classical.propDecidable P) 1 0
theorem hu_b1 {P : Prop} (h : P) : hu_b P = 1 := by unfold hu_b; rw [if_pos h]
theorem hu_b0 {P : Prop} (h : ¬ P) : hu_b P = 0 := by unfold hu_b; rw [if_neg h]
theorem hu_bc {P Q : Prop} (h : P ↔ Q) : hu_b P = hu_b Q := by rw [propext h]
theorem hu_ba (P Q : Prop) : hu_b P * hu_b Q = hu_b (P ∧ Q) := by
  by_cases h : P
  · by_cases k : Q
    · rw [hu_b1 h, hu_b1 k, hu_b1 ⟨h, k⟩]
    · rw [hu_b0 k, hu_b0 (P := P ∧ Q) (fun z => k z.2), Nat.mul_zero]
  · rw [hu_b0 h, hu_b0 (P := P ∧ Q) (fun z => h z.1), Nat.zero_mul]
def hu_sm (f : Nat → Nat) : Nat → Nat
  | 0 => 0
  | n + 1 => hu_sm f n + f n
theorem hu_sc {f g : Nat → Nat} : ∀ n, (∀ k, k < n → f k = g k) → hu_sm f n = hu_sm g n
  | 0, _ => rfl
  | n + 1, h => by
    have a := hu_sc (f := f) (g := g) n (fun k hk => h k (by omega))
    have b := h n (by omega)
    simp only [hu_sm]; omega
theorem hu_sa (f g : Nat → Nat) : ∀ n, hu_sm (fun k => f k + g k) n = hu_sm f n + hu_sm g n
  | 0 => rfl
  | n + 1 => by
    have a := hu_sa f g n
    simp only [hu_sm]; omega
theorem hu_s0 {f : Nat → Nat} : ∀ n, (∀ k, k < n → f k = 0) → hu_sm f n = 0
  | 0, _ => rfl
  | n + 1, h => by
    have a := hu_s0 (f := f) n (fun k hk => h k (by omega))
    have b := h n (by omega)
    simp only [hu_sm]; omega
theorem hu_ss (f : Nat → Nat → Nat) (n : Nat) : ∀ m, hu_sm (fun i => hu_sm (fun j => f i j) n) m = hu_sm (fun j => hu_sm (fun i => f i j) m) n
  | 0 => (hu_s0 n (fun _ _ => rfl)).symm
  | m + 1 => by
    have a := hu_ss f n m
    have b := hu_sa (fun j => hu_sm (fun i => f i j) m) (fun j => f m j) n
    simp only [hu_sm] at b ⊢
    omega
theorem hu_s1 {a : Nat} : ∀ n, a < n → hu_sm (fun k => hu_b (a = k)) n = 1
  | 0, h => by omega
  | n + 1, h => by
    simp only [hu_sm]
    rcases Nat.lt_or_ge a n with z | z
    · rw [hu_s1 n z, hu_b0 (by omega)]
    · rw [hu_s0 n (fun k hk => hu_b0 (by omega)), hu_b1 (by omega)]
theorem hu_cn {f : Nat → Nat} {N : Nat} : ∀ g, (∀ t, t < g → f t < N) → (∀ t s, t < g → s < g → f t = f s → t = s) → hu_sm (fun k => hu_b (∃ t, t < g ∧ f t = k)) N = g
  | 0, _, _ => hu_s0 N (fun k _ => hu_b0 (fun ⟨t, ht, _⟩ => by omega))
  | g + 1, h, inj => by
    have a := hu_cn (f := f) (N := N) g (fun t ht => h t (by omega)) (fun t s ht hs => inj t s (by omega) (by omega))
    have b := hu_s1 (a := f g) N (h g (by omega))
    have c := hu_sa (fun k => hu_b (∃ t, t < g ∧ f t = k)) (fun k => hu_b (f g = k)) N
    rw [a, b] at c
    rw [← c]
    refine hu_sc N (fun k _ => ?_)
    by_cases e : f g = k
    · have no : ¬ ∃ t, t < g ∧ f t = k := by
        rintro ⟨t, ht, et⟩
        have := inj t g (by omega) (by omega) (by omega)
        omega
      rw [hu_b1 e, hu_b0 no, hu_b1 ⟨g, by omega, e⟩]
    · rw [hu_b0 e, Nat.add_zero]
      refine hu_bc ⟨?_, ?_⟩
      · rintro ⟨t, ht, et⟩
        refine ⟨t, ?_, et⟩
        rcases Nat.lt_or_ge t g with z | z
        · exact z
        · have : t = g := by omega
          rw [this] at et
          exact absurd et e
      · rintro ⟨t, ht, et⟩
        exact ⟨t, by omega, et⟩
theorem hu_se {p : Nat → Prop} : ∀ m, (∀ i j, i < m → j < m → p i → p j → i = j) → hu_sm (fun i => hu_b (p i)) m = hu_b (∃ i, i < m ∧ p i)
  | 0, _ => (hu_b0 (fun ⟨i, hi, _⟩ => by omega)).symm
  | m + 1, h => by
    have a := hu_se (p := p) m (fun i j hi hj => h i j (by omega) (by omega))
    simp only [hu_sm]
    rw [a]
    by_cases e : p m
    · have no : ¬ ∃ i, i < m ∧ p i := by
        rintro ⟨i, hi, pi⟩
        have := h i m (by omega) (by omega) pi e
        omega
      rw [hu_b0 no, hu_b1 e, hu_b1 ⟨m, by omega, e⟩]
    · rw [hu_b0 e, Nat.add_zero]
      refine hu_bc ⟨?_, ?_⟩
      · rintro ⟨t, ht, et⟩
        exact ⟨t, by omega, et⟩
      · rintro ⟨t, ht, et⟩
        refine ⟨t, ?_, et⟩
        rcases Nat.lt_or_ge t m with z | z
        · exact z
        · have : t = m := by omega
          rw [this] at et
          exact absurd et e
theorem hu_sp (f : Nat → Nat) (a : Nat) : ∀ b, hu_sm f (a + b) = hu_sm f a + hu_sm (fun k => f (a + k)) b
  | 0 => rfl
  | b + 1 => by
    have h := hu_sp f a b
    show hu_sm f (a + b) + f (a + b) = _
    simp only [hu_sm]
    omega
theorem hu_sb (f : Nat → Nat) : ∀ n, hu_sm f (41 * n) = hu_sm (fun x => hu_sm (fun y => f (41 * x + y)) 41) n
  | 0 => rfl
  | n + 1 => by
    have h := hu_sb f n
    have k := hu_sp f (41 * n) 41
    have e : 41 * (n + 1) = 41 * n + 41 := by omega
    rw [e, k, h]
    rfl
/-- whole numbers from lo to hi, below N -/
theorem hu_iv {lo hi : Int} {N : Nat} (h0 : 0 ≤ lo) (h1 : hi < N) : hu_sm (fun y => hu_b (lo ≤ (y : Int) ∧ (y : Int) ≤ hi)) N = (hi - lo + 1).toNat := by
  rw [← hu_cn (f := fun t => lo.toNat + t) (N := N) (hi - lo + 1).toNat (fun t ht => by show lo.toNat + t < N; omega) (fun t s _ _ e => by have e' : lo.toNat + t = lo.toNat + s := e; omega)]
  refine hu_sc N (fun k _ => hu_bc ⟨?_, ?_⟩)
  · rintro ⟨a, b⟩
    refine ⟨k - lo.toNat, by omega, ?_⟩
    show lo.toNat + (k - lo.toNat) = k
    omega
  · rintro ⟨t, ht, e⟩
    have e' : lo.toNat + t = k := e
    omega
/-! a list of those below N that have P, in order -/
noncomputable def hu_ct (P : Nat → Prop) (n : Nat) : Nat := hu_sm (fun j => hu_b (P j)) n
theorem hu_ct1 {P : Nat → Prop} {n : Nat} (h : P n) : hu_ct P (n + 1) = hu_ct P n + 1 := by
  show hu_ct P n + hu_b (P n) = _
  rw [hu_b1 h]
theorem hu_ct0 {P : Nat → Prop} {n : Nat} (h : ¬ P n) : hu_ct P (n + 1) = hu_ct P n := by
  show hu_ct P n + hu_b (P n) = _
  rw [hu_b0 h, Nat.add_zero]
theorem hu_ctle (P : Nat → Prop) : ∀ n, hu_ct P n ≤ n
  | 0 => Nat.le_refl _
  | n + 1 => by
    have a := hu_ctle P n
    by_cases h : P n
    · rw [hu_ct1 h]; omega
    · rw [hu_ct0 h]; omega
theorem hu_ctm {P : Nat → Prop} {j : Nat} : ∀ n, hu_ct P j ≤ hu_ct P (j + n)
  | 0 => Nat.le_refl _
  | n + 1 => by
    have a := hu_ctm (P := P) (j := j) n
    have e : j + (n + 1) = j + n + 1 := by omega
    rw [e]
    by_cases h : P (j + n)
    · rw [hu_ct1 h]; omega
    · rw [hu_ct0 h]; omega
theorem hu_ctl {P : Nat → Prop} {j n : Nat} (h : j < n) (p : P j) : hu_ct P j < hu_ct P n := by
  have a := hu_ctm (P := P) (j := j + 1) (n - (j + 1))
  have e : j + 1 + (n - (j + 1)) = n := by omega
  rw [e, hu_ct1 p] at a
  omega
theorem hu_ctx {P : Nat → Prop} {k : Nat} : ∀ n, k < hu_ct P n → ∃ j, j < n ∧ P j ∧ hu_ct P j = k
  | 0, h => by have : hu_ct P 0 = 0 := rfl; omega
  | n + 1, h => by
    by_cases p : P n
    · rw [hu_ct1 p] at h
      rcases Nat.lt_or_ge k (hu_ct P n) with z | z
      · obtain ⟨j, a, b, c⟩ := hu_ctx n z
        exact ⟨j, by omega, b, c⟩
      · exact ⟨n, by omega, p, by omega⟩
    · rw [hu_ct0 p] at h
      obtain ⟨j, a, b, c⟩ := hu_ctx n h
      exact ⟨j, by omega, b, c⟩
theorem hu_ls {α : Type} {P : Nat → Prop} {li cd : Nat → α} (g : α → Nat) : ∀ n, (∀ j, j < n → P j → li (hu_ct P j) = cd j) → hu_sm (fun k => g (li k)) (hu_ct P n) = hu_sm (fun j => hu_b (P j) * g (cd j)) n
  | 0, _ => rfl
  | n + 1, h => by
    have a := hu_ls g n (fun j hj => h j (by omega))
    by_cases p : P n
    · rw [hu_ct1 p]
      simp only [hu_sm]
      rw [a, h n (by omega) p, hu_b1 p, Nat.one_mul]
    · rw [hu_ct0 p]
      simp only [hu_sm]
      rw [a, hu_b0 p, Nat.zero_mul, Nat.add_zero]
end
section
/-! lattice points on an edge -/
theorem hu_bz (a b : Nat) : ∃ s t : Int, s * (a : Int) + t * (b : Int) = ((Nat.gcd a b : Nat) : Int) := by
  induction a, b using Nat.gcd.induction with
  | H0 n => exact ⟨0, 1, by rw [Nat.gcd_zero_left]; omega⟩
  | H1 m n h ih =>
    obtain ⟨s, t, e⟩ := ih
    have c := Nat.div_add_mod n m
    rw [Nat.gcd_rec]
    generalize Nat.gcd (n % m) m = g at *
    generalize n / m = q at *
    generalize n % m = r at *
    have c' : (m : Int) * (q : Int) + (r : Int) = (n : Int) := by exact_mod_cast c
    refine ⟨t - s * (q : Int), s, ?_⟩
    rw [← e, ← c']
    grind
theorem hu_bza (a : Int) : ∃ s : Int, s * a = ((a.natAbs : Nat) : Int) := by
  rcases Int.le_total 0 a with z | z
  · exact ⟨1, by omega⟩
  · exact ⟨-1, by omega⟩
theorem hu_bzi (a b : Int) : ∃ s t : Int, s * a + t * b = ((Int.gcd a b : Nat) : Int) := by
  obtain ⟨s, t, e⟩ := hu_bz a.natAbs b.natAbs
  obtain ⟨p, h1⟩ := hu_bza a
  obtain ⟨q, h2⟩ := hu_bza b
  exact ⟨s * p, t * q, by rw [Int.mul_assoc, Int.mul_assoc, h1, h2]; exact e⟩
theorem hu_gd (dx dy : Int) (h : ¬ (dx = 0 ∧ dy = 0)) : ∃ (g : Nat) (u v s t : Int), g = Int.gcd dx dy ∧ 0 < g ∧ dx = g * u ∧ dy = g * v ∧ s * u + t * v = 1 := by
  have hg : 0 < Int.gcd dx dy := by
    by_cases c : dx = 0
    · exact Int.gcd_pos_of_ne_zero_right dx (fun z => h ⟨c, z⟩)
    · exact Int.gcd_pos_of_ne_zero_left dy c
  obtain ⟨u, hu⟩ := Int.gcd_dvd_left dx dy
  obtain ⟨v, hv⟩ := Int.gcd_dvd_right dx dy
  obtain ⟨s, t, e⟩ := hu_bzi dx dy
  refine ⟨Int.gcd dx dy, u, v, s, t, rfl, hg, hu, hv, ?_⟩
  generalize Int.gcd dx dy = g at *
  have e2 : (g : Int) * (s * u + t * v) = (g : Int) * 1 := by
    rw [hu, hv] at e
    grind
  exact Int.eq_of_mul_eq_mul_left (by omega) e2
theorem hu_rng {u w g : Int} (h0 : u ≠ 0) (hg : 0 < g) (h : (0 ≤ u * w ∧ u * w ≤ g * u) ∨ (g * u ≤ u * w ∧ u * w ≤ 0)) : 0 ≤ w ∧ w ≤ g := by
  have e1 : u * (g - w) = g * u - u * w := by grind
  have e2 : (-u) * w = -(u * w) := by grind
  have e3 : (-u) * (g - w) = u * w - g * u := by grind
  rcases hu_lg 0 u with z | z
  · have k := Int.mul_pos hg z
    have a := hu_p1 (d := u) (t := w) z (by omega)
    have b := hu_p1 (d := u) (t := g - w) z (by omega)
    omega
  · have k := Int.mul_neg_of_pos_of_neg (b := u) hg (by omega)
    have a := hu_p1 (d := -u) (t := w) (by omega) (by omega)
    have b := hu_p1 (d := -u) (t := g - w) (by omega) (by omega)
    omega
def hu_hf (ax ay bx bz x y : Int) : Prop := hu_tn ax ay bx bz x y = 0 ∧ hu_bt ax ay bx bz x y ∧ ¬ (x = bx ∧ y = bz)
theorem hu_b3 {u : Int} {g t : Nat} {ax bx : Int} (e : bx - ax = g * u) (ht : t < g) : (ax ≤ ax + t * u ∧ ax + t * u ≤ bx) ∨ (bx ≤ ax + t * u ∧ ax + t * u ≤ ax) := by
  rcases Int.le_total 0 u with z | z
  · have a := Int.mul_nonneg (a := (t : Int)) (b := u) (by omega) z
    have b := Int.mul_le_mul_of_nonneg_right (a := (t : Int)) (b := (g : Int)) (c := u) (by omega) z
    omega
  · have a := Int.mul_nonpos_of_nonneg_of_nonpos (a := (t : Int)) (b := u) (by omega) z
    have b := Int.mul_le_mul_of_nonpos_right (a := (g : Int)) (b := (t : Int)) (c := u) (by omega) z
    omega
theorem hu_pt {ax ay bx bz u v s r : Int} {g t : Nat} (hx : bx - ax = g * u) (hy : bz - ay = g * v) (bez : s * u + r * v = 1) (ht : t < g) : hu_hf ax ay bx bz (ax + t * u) (ay + t * v) := by
  refine ⟨?_, ⟨hu_b3 hx ht, hu_b3 hy ht⟩, ?_⟩
  · unfold hu_tn
    rw [hx, hy]
    grind
  · rintro ⟨a, b⟩
    have k1 : (t : Int) * u = g * u := by omega
    have k2 : (t : Int) * v = g * v := by omega
    have k3 : (t : Int) = g := by
      have : (t : Int) * (s * u + r * v) = g * (s * u + r * v) := by grind
      rw [bez] at this
      omega
    omega
theorem hu_tp {ax ay bx bz u v s r x y : Int} {g : Nat} (hg : 0 < g) (hx : bx - ax = g * u) (hy : bz - ay = g * v) (bez : s * u + r * v = 1) (h : hu_hf ax ay bx bz x y) : ∃ t : Nat, t < g ∧ x = ax + t * u ∧ y = ay + t * v := by
  obtain ⟨h1, h2, h3⟩ := h
  have k0 : u * (y - ay) = v * (x - ax) := by
    unfold hu_tn at h1
    rw [hx, hy] at h1
    refine Int.eq_of_mul_eq_mul_left (a := (g : Int)) (by omega) ?_
    rw [← Int.mul_assoc, ← Int.mul_assoc]
    omega
  have kx : u * (s * (x - ax) + r * (y - ay)) = x - ax := by
    have : u * (s * (x - ax) + r * (y - ay)) = (s * u + r * v) * (x - ax) + r * (u * (y - ay) - v * (x - ax)) := by grind
    rw [this, bez, k0]
    omega
  have ky : v * (s * (x - ax) + r * (y - ay)) = y - ay := by
    have : v * (s * (x - ax) + r * (y - ay)) = (s * u + r * v) * (y - ay) - s * (u * (y - ay) - v * (x - ax)) := by grind
    rw [this, bez, k0]
    omega
  generalize s * (x - ax) + r * (y - ay) = w at kx ky
  unfold hu_bt at h2
  have rg : 0 ≤ w ∧ w ≤ (g : Int) := by
    by_cases cu : u = 0
    · by_cases cv : v = 0
      · rw [cu, cv, Int.mul_zero, Int.mul_zero] at bez
        omega
      · exact hu_rng cv (by omega) (by omega)
    · exact hu_rng cu (by omega) (by omega)
  have ng : w ≠ (g : Int) := by
    intro z
    rw [z, Int.mul_comm] at kx ky
    exact h3 ⟨by omega, by omega⟩
  refine ⟨w.toNat, by omega, ?_, ?_⟩
  · have : ((w.toNat : Nat) : Int) = w := by omega
    rw [this, Int.mul_comm]; omega
  · have : ((w.toNat : Nat) : Int) = w := by omega
    rw [this, Int.mul_comm]; omega
def hu_cv (R : Int → Int → Prop) : Prop := ∀ ax ay bx bz rx ry, R ax ay → R bx bz → hu_tn ax ay bx bz rx ry = 0 → hu_bt ax ay bx bz rx ry → R rx ry
def hu_box (R : Int → Int → Prop) : Prop := ∀ x y, R x y → 0 ≤ x ∧ x ≤ 40 ∧ 0 ≤ y ∧ y ≤ 40
theorem hu_edge {R : Int → Int → Prop} (hR : hu_box R) (cv : hu_cv R) {ax ay bx bz : Int} (ra : R ax ay) (rb : R bx bz) (ne : ¬ (bx = ax ∧ bz = ay)) :
    hu_sm (fun k => hu_b (R ((k / 41 : Nat) : Int) ((k % 41 : Nat) : Int) ∧ hu_hf ax ay bx bz ((k / 41 : Nat) : Int) ((k % 41 : Nat) : Int))) 1681 = Int.gcd (bx - ax) (bz - ay) := by
  obtain ⟨g, u, v, s, r, eg, hg, hx, hy, bez⟩ := hu_gd (bx - ax) (bz - ay) (by omega)
  rw [← eg]
  have inR : ∀ t : Nat, t < g → R (ax + t * u) (ay + t * v) := by
    intro t ht
    have p := hu_pt hx hy bez ht
    exact cv _ _ _ _ _ _ ra rb p.1 p.2.1
  have ff : ∀ t : Nat, t < g → (41 * (ax + t * u).toNat + (ay + t * v).toNat) / 41 = (ax + t * u).toNat ∧ (41 * (ax + t * u).toNat + (ay + t * v).toNat) % 41 = (ay + t * v).toNat ∧ 41 * (ax + t * u).toNat + (ay + t * v).toNat < 1681 ∧ (((ax + t * u).toNat : Nat) : Int) = ax + t * u ∧ (((ay + t * v).toNat : Nat) : Int) = ay + t * v := by
    intro t ht
    have q := hR _ _ (inR t ht)
    generalize ax + t * u = x at q ⊢
    generalize ay + t * v = y at q ⊢
    omega
  have cn := hu_cn (f := fun t => 41 * (ax + t * u).toNat + (ay + t * v).toNat) (N := 1681) g (fun t ht => (ff t ht).2.2.1) (by
    intro t t' ht ht' e
    have a := ff t ht
    have b := ff t' ht'
    have e' : 41 * (ax + t * u).toNat + (ay + t * v).toNat = 41 * (ax + t' * u).toNat + (ay + t' * v).toNat := e
    rw [e'] at a
    have k1 : (t : Int) * u = t' * u := by omega
    have k2 : (t : Int) * v = t' * v := by omega
    have k3 : (t : Int) * (s * u + r * v) = t' * (s * u + r * v) := by grind
    rw [bez] at k3
    omega)
  refine Eq.trans ?_ cn
  refine hu_sc 1681 (fun k hk => hu_bc ⟨?_, ?_⟩)
  · rintro ⟨a, b⟩
    obtain ⟨t, ht, e1, e2⟩ := hu_tp hg hx hy bez b
    refine ⟨t, ht, ?_⟩
    show 41 * (ax + t * u).toNat + (ay + t * v).toNat = k
    rw [← e1, ← e2]
    omega
  · rintro ⟨t, ht, e⟩
    have e' : 41 * (ax + t * u).toNat + (ay + t * v).toNat = k := e
    obtain ⟨f1, f2, f3, f4, f5⟩ := ff t ht
    rw [e'] at f1 f2
    rw [f1, f2, f4, f5]
    exact ⟨inR t ht, hu_pt hx hy bez ht⟩
theorem hu_border {R : Int → Int → Prop} {m : Nat} {X Y : Nat → Int} (h : hu_OK R m X Y) (hm : 3 ≤ m) (hR : hu_box R) (cv : hu_cv R) :
    hu_sm (fun k => hu_b (R ((k / 41 : Nat) : Int) ((k % 41 : Nat) : Int)) * hu_b (∃ i, i < m ∧ hu_tn (X i) (Y i) (X (hu_nx m i)) (Y (hu_nx m i)) ((k / 41 : Nat) : Int) ((k % 41 : Nat) : Int) = 0)) 1681
      = hu_sm (fun i => Int.gcd (X (hu_nx m i) - X i) (Y (hu_nx m i) - Y i)) m := by
  have e1 : hu_sm (fun i => Int.gcd (X (hu_nx m i) - X i) (Y (hu_nx m i) - Y i)) m = hu_sm (fun i => hu_sm (fun k => hu_b (R ((k / 41 : Nat) : Int) ((k % 41 : Nat) : Int) ∧ hu_on m X Y i ((k / 41 : Nat) : Int) ((k % 41 : Nat) : Int))) 1681) m := by
    refine hu_sc m (fun i hi => ?_)
    have ni : hu_nx m i < m := hu_nxl (by omega)
    refine (hu_edge hR cv (h.1 i hi) (h.1 _ ni) ?_).symm
    intro z
    have f := hu_ds h ni hi z
    rcases Nat.lt_or_ge (i + 1) m with w | w
    · rw [hu_nx1 w] at f; omega
    · rw [hu_nx0 w] at f; omega
  rw [e1, hu_ss]
  refine hu_sc 1681 (fun k _ => ?_)
  rw [hu_se (p := fun i => R ((k / 41 : Nat) : Int) ((k % 41 : Nat) : Int) ∧ hu_on m X Y i ((k / 41 : Nat) : Int) ((k % 41 : Nat) : Int)) m (fun i j hi hj a b => hu_onU h hm a.1 hi hj a.2 b.2), hu_ba]
  refine hu_bc ⟨?_, ?_⟩
  · rintro ⟨a, b⟩
    obtain ⟨i, hi, o⟩ := (hu_onE h hm a).mpr b
    exact ⟨i, hi, a, o⟩
  · rintro ⟨i, hi, a, o⟩
    exact ⟨a, (hu_onE h hm a).mp ⟨i, hi, o⟩⟩
/-! the region of the conditions -/
def hu_R (c : Nat) (fa fb fc : Nat → Int32) (x y : Int) : Prop := 0 ≤ x ∧ x ≤ 40 ∧ 0 ≤ y ∧ y ≤ 40 ∧ ∀ k, k < c → (fa k).toInt * x + (fb k).toInt * y ≤ (fc k).toInt
theorem hu_Rb (c : Nat) (fa fb fc : Nat → Int32) : hu_box (hu_R c fa fb fc) := fun x y r => ⟨r.1, r.2.1, r.2.2.1, r.2.2.2.1⟩
theorem hu_Rn (c : Nat) (fa fb fc : Nat → Int32) : hu_bnd (hu_R c fa fb fc) := fun x y r => ⟨r.1, r.2.1⟩
theorem hu_Rv (c : Nat) (fa fb fc : Nat → Int32) : hu_cv (hu_R c fa fb fc) := by
  intro ax ay bx bz rx ry ra rb h b
  have b' := b
  unfold hu_bt at b'
  obtain ⟨a1, a2, a3, a4, a5⟩ := ra
  obtain ⟨b1, b2, b3, b4, b5⟩ := rb
  refine ⟨by omega, by omega, by omega, by omega, fun k hk => ?_⟩
  have ka := a5 k hk
  have kb := b5 k hk
  rcases Int.le_total ((fa k).toInt * bx + (fb k).toInt * bz) ((fa k).toInt * ax + (fb k).toInt * ay) with z | z
  · have := hu_seg h b z
    omega
  · have h2 : hu_tn bx bz ax ay rx ry = 0 := by
      have : hu_tn bx bz ax ay rx ry = - hu_tn ax ay bx bz rx ry := by unfold hu_tn; grind
      omega
    have hb2 : hu_bt bx bz ax ay rx ry := by unfold hu_bt; omega
    have := hu_seg h2 hb2 z
    omega
end
section
/-! ints of the machine as whole numbers; the columns -/
theorem hu_mb {a b K M : Int} (ha : -K ≤ a ∧ a ≤ K) (hb : -M ≤ b ∧ b ≤ M) : -(K * M) ≤ a * b ∧ a * b ≤ K * M := by
  have e1 : (K - a) * (M + b) + (K + a) * (M - b) = 2 * (K * M) - 2 * (a * b) := by grind
  have e2 : (K - a) * (M - b) + (K + a) * (M + b) = 2 * (K * M) + 2 * (a * b) := by grind
  have a1 := Int.mul_nonneg (a := K - a) (b := M + b) (by omega) (by omega)
  have a2 := Int.mul_nonneg (a := K + a) (b := M - b) (by omega) (by omega)
  have a3 := Int.mul_nonneg (a := K - a) (b := M - b) (by omega) (by omega)
  have a4 := Int.mul_nonneg (a := K + a) (b := M + b) (by omega) (by omega)
  omega
theorem hu_t0 : (0 : Int32).toInt = 0 := by decide
theorem hu_t1 : (1 : Int32).toInt = 1 := by decide
theorem hu_tm : (-1 : Int32).toInt = -1 := by decide
theorem hu_t40 : (40 : Int32).toInt = 40 := by decide
theorem hu_add {x y : Int32} {a b : Int} (hx : x.toInt = a) (hy : y.toInt = b) (h1 : -2000000000 ≤ a + b) (h2 : a + b ≤ 2000000000) : (x + y).toInt = a + b := by
  subst hx hy
  exact Jvm.Kit.i32_add (by omega) (by omega)
theorem hu_sub {x y : Int32} {a b : Int} (hx : x.toInt = a) (hy : y.toInt = b) (h1 : -2000000000 ≤ a - b) (h2 : a - b ≤ 2000000000) : (x - y).toInt = a - b := by
  subst hx hy
  exact Jvm.Kit.i32_sub (by omega) (by omega)
theorem hu_mul {x y : Int32} {a b : Int} (hx : x.toInt = a) (hy : y.toInt = b) (h1 : -2000000000 ≤ a * b) (h2 : a * b ≤ 2000000000) : (x * y).toInt = a * b := by
  subst hx hy
  exact Jvm.Kit.i32_mul (by omega) (by omega)
theorem hu_neg {x : Int32} {a : Int} (hx : x.toInt = a) (h1 : -2000000000 ≤ a) : (-x).toInt = -a := by
  subst hx
  exact Jvm.Kit.i32_neg (by omega)
theorem xc_floor {post : Int32 → Prop} {p q : Int32} (h1 : 0 < q.toInt) (h2 : q.toInt ≤ 9) (h3 : -5000 ≤ p.toInt) (h4 : p.toInt ≤ 5000) (K : ∀ r : Int32, r.toInt = p.toInt / q.toInt → post r) : wpX_floorDiv post p q := by
  have hq : (0 : Int32) < q := by rw [Int32.lt_iff_toInt_lt, hu_t0]; exact h1
  have ne : ¬ q = 0 := by intro e; rw [e, hu_t0] at h1; omega
  refine br_t hq ⟨ne, fun t et => ?_⟩
  have e1 : t.toInt = p.toInt.tdiv q.toInt := by rw [et]; exact Jvm.Kit.i32_div (by omega)
  have bd := Int.natAbs_tdiv_le_natAbs p.toInt q.toInt
  rw [← e1] at bd
  have mb := hu_mb (a := t.toInt) (b := q.toInt) (K := 5000) (M := 9) (by omega) (by omega)
  have e2 : (t * q).toInt = t.toInt * q.toInt := hu_mul rfl rfl (by omega) (by omega)
  have e3 := Int.tdiv_eq_ediv (a := p.toInt) (b := q.toInt)
  by_cases c : 0 ≤ p.toInt ∨ q.toInt ∣ p.toInt
  · rw [if_pos c, ← e1] at e3
    have e4 : t.toInt = p.toInt / q.toInt := by omega
    have le := Int.ediv_mul_le p.toInt (b := q.toInt) (by omega)
    exact br_t (by rw [Int32.le_iff_toInt_le, e2, e4]; exact le) (K t e4)
  · rw [if_neg c, ← e1, Int.sign_eq_one_of_pos h1] at e3
    have lt := Int.lt_ediv_add_one_mul_self p.toInt h1
    rw [← e3] at lt
    refine br_f (by rw [Int32.le_iff_toInt_le, e2]; omega) (K (t - 1) ?_)
    rw [hu_sub (b := 1) rfl hu_t1 (by omega) (by omega)]
    omega
def hu_B (fa fb fc : Nat → Int32) : Prop := ∀ k, -9 ≤ (fa k).toInt ∧ (fa k).toInt ≤ 9 ∧ -9 ≤ (fb k).toInt ∧ (fb k).toInt ≤ 9 ∧ -1000 ≤ (fc k).toInt ∧ (fc k).toInt ≤ 1000
theorem hu_Rs {i : Nat} {fa fb fc : Nat → Int32} {x y : Int} : hu_R (i + 1) fa fb fc x y ↔ hu_R i fa fb fc x y ∧ (fa i).toInt * x + (fb i).toInt * y ≤ (fc i).toInt := by
  constructor
  · rintro ⟨a, b, c, d, e⟩
    exact ⟨⟨a, b, c, d, fun k hk => e k (by omega)⟩, e i (by omega)⟩
  · rintro ⟨⟨a, b, c, d, e⟩, f⟩
    refine ⟨a, b, c, d, fun k hk => ?_⟩
    rcases Nat.lt_or_ge k i with z | z
    · exact e k z
    · have : k = i := by omega
      rw [this]; exact f
/-- one condition narrows a column: above, below, or all of it -/
theorem hu_n1 {i x : Nat} {fa fb fc : Nat → Int32} {lo hi hi' : Int} (c : hu_col (hu_R i fa fb fc) x lo hi) (hb : 0 < (fb i).toInt)
    (h : hi' = if (((fc i).toInt - (fa i).toInt * x) / (fb i).toInt) < hi then ((fc i).toInt - (fa i).toInt * x) / (fb i).toInt else hi) : hu_col (hu_R (i + 1) fa fb fc) x lo hi' := by
  obtain ⟨c1, c2, c3⟩ := c
  refine ⟨c1, ?_, fun y => ?_⟩
  · rw [h]; split <;> omega
  · rw [hu_Rs, c3 y]
    have k := Int.le_ediv_iff_mul_le (a := y) (b := (fc i).toInt - (fa i).toInt * x) hb
    have e : y * (fb i).toInt = (fb i).toInt * y := Int.mul_comm _ _
    rw [e] at k
    have k2 : (fa i).toInt * (x : Int) + (fb i).toInt * y ≤ (fc i).toInt ↔ y ≤ ((fc i).toInt - (fa i).toInt * x) / (fb i).toInt := by rw [k]; omega
    rw [k2, h]
    split <;> omega
theorem hu_n2 {i x : Nat} {fa fb fc : Nat → Int32} {lo hi lo' : Int} (c : hu_col (hu_R i fa fb fc) x lo hi) (hb : (fb i).toInt < 0)
    (h : lo' = if lo < -(((fc i).toInt - (fa i).toInt * x) / (-(fb i).toInt)) then -(((fc i).toInt - (fa i).toInt * x) / (-(fb i).toInt)) else lo) : hu_col (hu_R (i + 1) fa fb fc) x lo' hi := by
  obtain ⟨c1, c2, c3⟩ := c
  refine ⟨?_, c2, fun y => ?_⟩
  · rw [h]; split <;> omega
  · rw [hu_Rs, c3 y]
    have k := Int.le_ediv_iff_mul_le (a := -y) (b := (fc i).toInt - (fa i).toInt * x) (c := -(fb i).toInt) (by omega)
    have e : -y * -(fb i).toInt = (fb i).toInt * y := by grind
    rw [e] at k
    have k2 : (fa i).toInt * (x : Int) + (fb i).toInt * y ≤ (fc i).toInt ↔ -y ≤ ((fc i).toInt - (fa i).toInt * x) / (-(fb i).toInt) := by rw [k]; omega
    rw [k2, h]
    split <;> omega
theorem hu_n3 {i x : Nat} {fa fb fc : Nat → Int32} {lo hi hi' : Int} (c : hu_col (hu_R i fa fb fc) x lo hi) (hb : (fb i).toInt = 0)
    (h : (0 ≤ (fc i).toInt - (fa i).toInt * x ∧ hi' = hi) ∨ ((fc i).toInt - (fa i).toInt * x < 0 ∧ hi' = -1)) : hu_col (hu_R (i + 1) fa fb fc) x lo hi' := by
  obtain ⟨c1, c2, c3⟩ := c
  refine ⟨c1, by omega, fun y => ?_⟩
  rw [hu_Rs, c3 y, hb, Int.zero_mul]
  omega
theorem xc_narrow {post : SX → Prop} {c r n : Int32} {fa fb fc lo hi cx cy : Nat → Int32} {x i : Nat} (hx : x < 41) (hi8 : i < 8) (hb : hu_B fa fb fc) (I : hu_col (hu_R i fa fb fc) x (lo x).toInt (hi x).toInt)
    (K : ∀ lo' hi' : Nat → Int32, (∀ j, j ≠ x → lo' j = lo j ∧ hi' j = hi j) → hu_col (hu_R (i + 1) fa fb fc) x (lo' x).toInt (hi' x).toInt → post (c, r, n, fa, fb, fc, lo', hi', cx, cy)) :
    wpX_narrow post (c, r, n, fa, fb, fc, lo, hi, cx, cy) (nI x) (nI i) := by
  have v1 : vp_in (nI i) 8 := vp_in_nI hi8 (by omega)
  have v2 : vp_in (nI x) 41 := vp_in_nI hx (by omega)
  have e1 : (nI i).toNatClampNeg = i := nI_clamp (by omega)
  have e2 : (nI x).toNatClampNeg = x := nI_clamp (by omega)
  obtain ⟨b1, b2, b3, b4, b5, b6⟩ := hb i
  have mb := hu_mb (a := (fa i).toInt) (b := (x : Int)) (K := 9) (M := 40) (by omega) (by omega)
  have ex : (nI x).toInt = (x : Int) := nI_toInt (by omega)
  have es : (fc i - fa i * nI x).toInt = (fc i).toInt - (fa i).toInt * x := hu_sub rfl (hu_mul rfl ex (by omega) (by omega)) (by omega) (by omega)
  unfold wpX_narrow
  dsimp only
  rw [e1, e2]
  refine ⟨v1, v1, fun s e => ?_⟩
  rw [← e] at es
  refine ⟨v1, br_c (fun hle => ⟨v1, br_c (fun hge => br_c (fun h0 => ?_) (fun h0 => ⟨v2, fun hi' eh => ?_⟩)) (fun hlt => ⟨v1, ?_⟩)⟩) (fun hgt => ⟨v1, ?_⟩)⟩
  · rw [Int32.le_iff_toInt_le, hu_t0] at hle hge h0
    exact K lo hi (fun j _ => ⟨rfl, rfl⟩) (hu_n3 I (by omega) (Or.inl ⟨by omega, rfl⟩))
  · rw [Int32.le_iff_toInt_le, hu_t0] at hle hge h0
    rw [eh]
    refine K lo (upd hi x (-1)) (fun j hj => ⟨rfl, pk_un hj⟩) (hu_n3 I (by omega) (Or.inr ⟨by omega, ?_⟩))
    rw [pk_us, hu_tm]
  · rw [Int32.le_iff_toInt_le, hu_t0] at hle hlt
    have en : (-fb i).toInt = -(fb i).toInt := hu_neg rfl (by omega)
    refine xc_floor (by omega) (by omega) (by omega) (by omega) (fun q eq y ey => ⟨v2, ?_⟩)
    rw [es, en] at eq
    have qb : q.toInt ≤ 5000 ∧ -5000 ≤ q.toInt := by
      have g1 := Int.ediv_mul_le ((fc i).toInt - (fa i).toInt * x) (b := -(fb i).toInt) (by omega)
      have g2 := Int.lt_ediv_add_one_mul_self ((fc i).toInt - (fa i).toInt * x) (b := -(fb i).toInt) (by omega)
      rw [← eq] at g1 g2
      constructor
      · rcases hu_lg 5000 q.toInt with z | z
        · have := Int.mul_le_mul_of_nonneg_left (a := 1) (b := -(fb i).toInt) (c := q.toInt) (by omega) (by omega)
          omega
        · exact z
      · rcases hu_lg q.toInt (-5000) with z | z
        · have := Int.mul_le_mul_of_nonpos_left (a := q.toInt + 1) (b := -(fb i).toInt) (c := 1) (by omega) (by omega)
          omega
        · exact z
    have ey2 : y.toInt = -q.toInt := by rw [ey]; exact hu_neg rfl (by omega)
    refine br_c (fun h5 => ?_) (fun h5 => ⟨v2, fun lo' el => ?_⟩)
    · rw [Int32.le_iff_toInt_le] at h5
      refine K lo hi (fun j _ => ⟨rfl, rfl⟩) (hu_n2 I (by omega) ?_)
      rw [← eq, if_neg (by omega)]
    · rw [Int32.le_iff_toInt_le] at h5
      rw [el]
      refine K (upd lo x y) hi (fun j hj => ⟨pk_un hj, rfl⟩) (hu_n2 I (by omega) ?_)
      rw [pk_us, ← eq, if_pos (by omega), ey2]
  · rw [Int32.le_iff_toInt_le, hu_t0] at hgt
    refine xc_floor (by omega) (by omega) (by omega) (by omega) (fun q eq => ⟨v2, ?_⟩)
    rw [es] at eq
    refine br_c (fun h5 => ?_) (fun h5 => ⟨v2, fun hi' eh => ?_⟩)
    · rw [Int32.le_iff_toInt_le] at h5
      refine K lo hi (fun j _ => ⟨rfl, rfl⟩) (hu_n1 I (by omega) ?_)
      rw [← eq, if_neg (by omega)]
    · rw [Int32.le_iff_toInt_le] at h5
      rw [eh]
      refine K lo (upd hi x q) (fun j hj => ⟨rfl, pk_un hj⟩) (hu_n1 I (by omega) ?_)
      rw [pk_us, ← eq, if_pos (by omega)]
theorem xc_loop {post : SX → Prop} {r n : Int32} {fa fb fc lo hi cx cy : Nat → Int32} {x c : Nat} (hx : x < 41) (hc : c ≤ 8) (hb : hu_B fa fb fc)
    (K : ∀ lo' hi' : Nat → Int32, (∀ j, j ≠ x → lo' j = lo j ∧ hi' j = hi j) → hu_col (hu_R c fa fb fc) x (lo' x).toInt (hi' x).toInt → post (nI c, r, n, fa, fb, fc, lo', hi', cx, cy)) :
    ∀ (d i f : Nat) (l h : Nat → Int32), i + d = c → d < f → (∀ j, j ≠ x → l j = lo j ∧ h j = hi j) → hu_col (hu_R i fa fb fc) x (l x).toInt (h x).toInt → wX_fillColumn_17 post (nI x) f (nI i) (nI c) r n fa fb fc l h cx cy := by
  intro d
  induction d with
  | zero =>
    intro i f l h e hf hs I
    obtain ⟨f, rfl⟩ : ∃ g, f = g + 1 := ⟨f - 1, by omega⟩
    have ei : i = c := by omega
    subst ei
    exact br_t (nI_le (Nat.le_refl _) (by omega)) (K l h hs I)
  | succ d ih =>
    intro i f l h e hf hs I
    obtain ⟨f, rfl⟩ : ∃ g, f = g + 1 := ⟨f - 1, by omega⟩
    refine br_f (nI_ge (by omega) (by omega)) (xc_narrow hx (by omega) hb I (fun l' h' hs' I' => ?_))
    intro y ey
    rw [ey, nI_1]
    exact ih (i + 1) f l' h' (by omega) (by omega) (fun j hj => ⟨by rw [(hs' j hj).1, (hs j hj).1], by rw [(hs' j hj).2, (hs j hj).2]⟩) I'
theorem xc_fill {post : SX → Prop} {r n : Int32} {fa fb fc lo hi cx cy : Nat → Int32} {x c : Nat} (hx : x < 41) (hc : c ≤ 8) (hb : hu_B fa fb fc)
    (K : ∀ lo' hi' : Nat → Int32, (∀ j, j ≠ x → lo' j = lo j ∧ hi' j = hi j) → hu_col (hu_R c fa fb fc) x (lo' x).toInt (hi' x).toInt → post (nI c, r, n, fa, fb, fc, lo', hi', cx, cy)) :
    wpX_fillColumn post (nI c, r, n, fa, fb, fc, lo, hi, cx, cy) (nI x) := by
  have v2 : vp_in (nI x) 41 := vp_in_nI hx (by omega)
  have e2 : (nI x).toNatClampNeg = x := nI_clamp (by omega)
  refine ⟨v2, fun l el => ⟨v2, fun h eh => ⟨c + 1, ?_⟩⟩⟩
  rw [e2] at el eh
  refine xc_loop hx hc hb K c 0 (c + 1) l h (by omega) (by omega) (fun j hj => ⟨by rw [el]; exact pk_un hj, by rw [eh]; exact pk_un hj⟩) ?_
  rw [el, eh, pk_us, pk_us, hu_t0, hu_t40]
  refine ⟨Int.le_refl _, Int.le_refl _, fun y => ⟨fun q => ⟨q.2.2.1, q.2.2.2.1⟩, fun q => ⟨by omega, by omega, q.1, q.2, fun k hk => by omega⟩⟩⟩
theorem xc_some {post : Int32 → Prop} {c r n : Int32} {fa fb fc lo hi cx cy : Nat → Int32} {x : Nat} (hx : x < 41) (h0 : (hi x).toInt < (lo x).toInt → post 0) (h1 : (lo x).toInt ≤ (hi x).toInt → post 1) :
    wpX_some post (c, r, n, fa, fb, fc, lo, hi, cx, cy) (nI x) := by
  have v2 : vp_in (nI x) 41 := vp_in_nI hx (by omega)
  have e2 : (nI x).toNatClampNeg = x := nI_clamp (by omega)
  unfold wpX_some
  dsimp only
  rw [e2]
  refine ⟨v2, v2, br_c (fun h => h0 ?_) (fun h => h1 ?_)⟩
  · rw [Int32.lt_iff_toInt_lt] at h; exact h
  · rw [Int32.lt_iff_toInt_lt] at h; omega
end
section
/-! the component's scan -/
def hu_z (f : Nat → Int32) : Nat → Int := fun i => (f i).toInt
theorem hu_zs (f : Nat → Int32) (t : Nat) (v : Int32) : hu_z (upd f t v) t = v.toInt := congrArg Int32.toInt pk_us
theorem hu_zn (f : Nat → Int32) {i t : Nat} (v : Int32) (h : i < t) : hu_z (upd f t v) i = hu_z f i := congrArg Int32.toInt (pk_un (by omega))
def hu_sq (x : Int32) : Prop := 0 ≤ x.toInt ∧ x.toInt ≤ 40
/-- the turn of three points of the square, as the machine reckons it -/
theorem hu_t32 {ax ay bx bz px py : Int32} (h1 : hu_sq ax) (h2 : hu_sq ay) (h3 : hu_sq bx) (h4 : hu_sq bz) (h5 : hu_sq px) (h6 : hu_sq py) :
    (((bx - ax) * (py - ay)) - ((bz - ay) * (px - ax))).toInt = hu_tn ax.toInt ay.toInt bx.toInt bz.toInt px.toInt py.toInt := by
  unfold hu_sq at *
  have m1 := hu_mb (a := bx.toInt - ax.toInt) (b := py.toInt - ay.toInt) (K := 40) (M := 40) (by omega) (by omega)
  have m2 := hu_mb (a := bz.toInt - ay.toInt) (b := px.toInt - ax.toInt) (K := 40) (M := 40) (by omega) (by omega)
  exact hu_sub (hu_mul (hu_sub rfl rfl (by omega) (by omega)) (hu_sub rfl rfl (by omega) (by omega)) (by omega) (by omega))
    (hu_mul (hu_sub rfl rfl (by omega) (by omega)) (hu_sub rfl rfl (by omega) (by omega)) (by omega) (by omega)) (by omega) (by omega)
theorem xp_turn {post : Int32 → Prop} {c r n : Int32} {fa fb fc lo hi cx cy : Nat → Int32} {i j : Nat} {p0 p1 px py : Int32} (e0 : p0 = nI i) (e1 : p1 = nI j) (hi84 : i < 84) (hj : j < 84)
    (b1 : hu_sq (cx i) ∧ hu_sq (cy i)) (b2 : hu_sq (cx j) ∧ hu_sq (cy j)) (b3 : hu_sq px) (b4 : hu_sq py)
    (K : ∀ q : Int32, q.toInt = hu_tn (hu_z cx i) (hu_z cy i) (hu_z cx j) (hu_z cy j) px.toInt py.toInt → post q) : wpX_turn post (c, r, n, fa, fb, fc, lo, hi, cx, cy) p0 p1 px py := by
  subst e0 e1
  have v1 : vp_in (nI i) 84 := vp_in_nI hi84 (by omega)
  have v2 : vp_in (nI j) 84 := vp_in_nI hj (by omega)
  have e1 : (nI i).toNatClampNeg = i := nI_clamp (by omega)
  have e2 : (nI j).toNatClampNeg = j := nI_clamp (by omega)
  unfold wpX_turn
  dsimp only
  rw [e1, e2]
  exact ⟨v2, v1, v1, v2, v1, v1, K _ (hu_t32 b1.1 b1.2 b2.1 b2.2 b3 b4)⟩
theorem xp_44 {post : SX → Prop} {c r : Int32} {fa fb fc lo hi cx cy : Nat → Int32} {t : Nat} {px py : Int32} (ht : t < 84) (K : post (c, r, nI (t + 1), fa, fb, fc, lo, hi, upd cx t px, upd cy t py)) :
    wX_addPoint_44 post px py c r (nI t) fa fb fc lo hi cx cy := by
  have v1 : vp_in (nI t) 84 := vp_in_nI ht (by omega)
  have e1 : (nI t).toNatClampNeg = t := nI_clamp (by omega)
  unfold wX_addPoint_44
  rw [e1, nI_1]
  refine ⟨v1, fun a ea => ⟨v1, fun b eb k ek => ?_⟩⟩
  rw [ea, eb, ek]
  exact K
theorem xp_pop {post : SX → Prop} {c r : Int32} {fa fb fc lo hi cx cy : Nat → Int32} {n base b0 : Nat} {px py : Int32} (P : Nat → Prop) (hn : n < 84) (hb0 : base ≤ b0)
    (hbd : ∀ i, i < n → hu_sq (cx i) ∧ hu_sq (cy i)) (hpx : hu_sq px) (hpy : hu_sq py)
    (hst : ∀ t, b0 + 1 < t → t ≤ n → P t → hu_tn (hu_z cx (t - 2)) (hu_z cy (t - 2)) (hu_z cx (t - 1)) (hu_z cy (t - 1)) px.toInt py.toInt ≤ 0 → P (t - 1))
    (hbb : b0 = base ∨ (b0 = base + 1 ∧ 0 < hu_tn (hu_z cx base) (hu_z cy base) (hu_z cx (base + 1)) (hu_z cy (base + 1)) px.toInt py.toInt))
    (K : ∀ t, t ≤ n → (b0 < t ∨ t = n) → P t → (t ≤ b0 + 1 ∨ 0 < hu_tn (hu_z cx (t - 2)) (hu_z cy (t - 2)) (hu_z cx (t - 1)) (hu_z cy (t - 1)) px.toInt py.toInt) → post (c, r, nI (t + 1), fa, fb, fc, lo, hi, upd cx t px, upd cy t py)) :
    ∀ (f t : Nat), t < f → t ≤ n → base ≤ t → (b0 < t ∨ t = n) → P t → wX_addPoint_0 post (nI base) px py c r fa fb fc lo hi cx cy f (nI t) := by
  intro f
  induction f with
  | zero => intro t h; omega
  | succ f ih =>
    intro t hf htn hbt hb hP
    have e0 : nI t - nI base = nI (t - base) := pk_sub hbt
    rcases Nat.lt_or_ge (t - base) 2 with z | z
    · refine br_t ?_ (xp_44 (by omega) (K t htn hb hP (Or.inl (by omega))))
      rw [e0]
      exact nI_lt (b := 2) z (by omega)
    · refine br_f ?_ (xp_turn (i := t - 2) (j := t - 1) (pk_sub (b := 2) (by omega)) (pk_sub (b := 1) (by omega)) (by omega) (by omega) (hbd _ (by omega)) (hbd _ (by omega)) hpx hpy (fun q eq => ?_))
      · rw [e0]
        exact nI_nlt (b := 2) z (by omega)
      · rcases hu_lg 0 (hu_tn (hu_z cx (t - 2)) (hu_z cy (t - 2)) (hu_z cx (t - 1)) (hu_z cy (t - 1)) px.toInt py.toInt) with w | w
        · refine br_t ?_ (xp_44 (by omega) (K t htn hb hP (Or.inr w)))
          rw [Int32.lt_iff_toInt_lt, hu_t0, eq]
          exact w
        · refine br_f ?_ ?_
          · rw [Int32.lt_iff_toInt_lt, hu_t0, eq]
            omega
          · intro k ek
            have ek2 : k = nI (t - 1) := ek.trans (pk_sub (b := 1) (by omega))
            rw [ek2]
            rcases Nat.lt_or_ge (b0 + 1) t with y | y
            · exact ih (t - 1) (by omega) (by omega) (by omega) (Or.inl (by omega)) (hst t y htn hP w)
            · exfalso
              rcases hbb with h | ⟨h, h2⟩
              · omega
              · have f1 : t - 2 = base := by omega
                have f2 : t - 1 = base + 1 := by omega
                rw [f1, f2] at w
                omega
theorem xp_add {post : SX → Prop} {c r : Int32} {fa fb fc lo hi cx cy : Nat → Int32} {n base b0 : Nat} {px py : Int32} (P : Nat → Prop) (hn : n < 84) (hb0 : base ≤ b0) (hbn : base ≤ n)
    (hbd : ∀ i, i < n → hu_sq (cx i) ∧ hu_sq (cy i)) (hpx : hu_sq px) (hpy : hu_sq py) (hP : P n)
    (hst : ∀ t, b0 + 1 < t → t ≤ n → P t → hu_tn (hu_z cx (t - 2)) (hu_z cy (t - 2)) (hu_z cx (t - 1)) (hu_z cy (t - 1)) px.toInt py.toInt ≤ 0 → P (t - 1))
    (hbb : b0 = base ∨ (b0 = base + 1 ∧ 0 < hu_tn (hu_z cx base) (hu_z cy base) (hu_z cx (base + 1)) (hu_z cy (base + 1)) px.toInt py.toInt))
    (K : ∀ t, t ≤ n → (b0 < t ∨ t = n) → P t → (t ≤ b0 + 1 ∨ 0 < hu_tn (hu_z cx (t - 2)) (hu_z cy (t - 2)) (hu_z cx (t - 1)) (hu_z cy (t - 1)) px.toInt py.toInt) → post (c, r, nI (t + 1), fa, fb, fc, lo, hi, upd cx t px, upd cy t py)) :
    wpX_addPoint post (c, r, nI n, fa, fb, fc, lo, hi, cx, cy) (nI base) px py :=
  ⟨n + 1, xp_pop P hn hb0 hbd hpx hpy hst hbb K (n + 1) n (by omega) (Nat.le_refl n) hbn (Or.inr rfl) hP⟩
/-! what the scan leaves: columns and corners -/
def hu_cols (R : Int → Int → Prop) (lo hi : Nat → Int32) : Prop := ∀ j, j < 41 → hu_col R j (lo j).toInt (hi j).toInt
def xp_Fin (post : SX → Prop) (c : Nat) (fa fb fc lo hi : Nat → Int32) : Prop :=
  ∀ (m : Nat) (cx cy : Nat → Int32), m ≤ 82 → hu_OK (hu_R c fa fb fc) m (hu_z cx) (hu_z cy) → post (nI c, 1, nI m, fa, fb, fc, lo, hi, cx, cy)
theorem xp_sq {c : Nat} {fa fb fc cx cy : Nat → Int32} {i : Nat} (h : hu_R c fa fb fc (hu_z cx i) (hu_z cy i)) : hu_sq (cx i) ∧ hu_sq (cy i) := by
  obtain ⟨a, b, d, e, _⟩ := h
  exact ⟨⟨a, b⟩, ⟨d, e⟩⟩
theorem hu_uin {R : Int → Int → Prop} {la b b0 k n : Nat} {X Y : Nat → Int} (B : hu_UB R la b b0 X Y) (I : hu_UI R b0 k n X Y) : ∀ i, i < n → R (X i) (Y i) := by
  intro i hi
  have hb : b0 ≤ b + 1 := by rcases B.2.2 with d | d <;> omega
  rcases Nat.lt_or_ge i (b + 1) with z | z
  · exact B.1.2.1 i (by omega) z
  · have q : hu_QU R k (-X i) (-Y i) := I.2.1 i (by omega) hi
    have r := q.1
    rw [Int.neg_neg, Int.neg_neg] at r
    exact r
theorem xp_sqn {j : Nat} (h : j < 41) : hu_sq (nI j) := by
  unfold hu_sq
  rw [nI_toInt (by omega)]
  omega
theorem xp_ngt (X Y : Nat → Int) (i j : Nat) (px py : Int) : hu_tn ((fun i => -X i) i) ((fun i => -Y i) i) ((fun i => -X i) j) ((fun i => -Y i) j) (-px) (-py) = hu_tn (X i) (Y i) (X j) (Y j) px py := hu_ng _ _ _ _ _ _
/-- the way back, below the last column -/
theorem xp_up {post : SX → Prop} {c la b b0 : Nat} {fa fb fc lo hi : Nat → Int32} (hla : la < 41) (hb : b ≤ 40) (hc : hu_cols (hu_R c fa fb fc) lo hi) (F : xp_Fin post c fa fb fc lo hi) :
    ∀ (k f n : Nat) (cx cy : Nat → Int32), k < f → k ≤ la → n + k ≤ b + 2 + la → hu_UB (hu_R c fa fb fc) la b b0 (hu_z cx) (hu_z cy) → hu_UI (hu_R c fa fb fc) b0 k n (hu_z cx) (hu_z cy) →
      wX_prepare_75 post (nI la) (nI b) f (nI k + (-1)) (nI c) 1 (nI n) fa fb fc lo hi cx cy := by
  intro k
  induction k with
  | zero =>
    intro f n cx cy hf hk hn B I
    obtain ⟨f, rfl⟩ : ∃ g, f = g + 1 := ⟨f - 1, by omega⟩
    have hn0 := I.1
    have R0 := hu_Rn c fa fb fc
    refine br_t (by decide) (pk_le n 1 (fun h => ?_) (fun h => ?_))
    · exact F n cx cy (by omega) (hu_fin R0 B I (Or.inr ⟨fun z => by omega, rfl⟩))
    · have en : nI n - 1 = nI (n - 1) := pk_sub (b := 1) (by omega)
      have v1 : vp_in (nI n - 1) 84 := by rw [en]; exact vp_in_nI (by omega) (by omega)
      have e1 : (nI n - 1).toNatClampNeg = n - 1 := by rw [en]; exact nI_clamp (by omega)
      refine ⟨v1, ?_⟩
      rw [e1]
      refine br_c (fun h1 => ⟨v1, br_c (fun h2 => fun k ek => ?_) (fun h2 => ?_)⟩) (fun h1 => ?_)
      · rw [ek, en]
        exact F (n - 1) cx cy (by omega) (hu_fin R0 B I (Or.inl ⟨h, congrArg Int32.toInt h1, congrArg Int32.toInt h2, by omega⟩))
      · exact F n cx cy (by omega) (hu_fin R0 B I (Or.inr ⟨fun z => h2 (Int32.toInt_inj.mp z.2.2), rfl⟩))
      · exact F n cx cy (by omega) (hu_fin R0 B I (Or.inr ⟨fun z => h1 (Int32.toInt_inj.mp z.2.1), rfl⟩))
  | succ k ih =>
    intro f n cx cy hf hk hn B I
    obtain ⟨f, rfl⟩ : ∃ g, f = g + 1 := ⟨f - 1, by omega⟩
    rw [pk_m1]
    have ck := hc k (by omega)
    have e1 : (nI k).toNatClampNeg = k := nI_clamp (by omega)
    have bb : b ≤ b0 ∧ b0 ≤ b + 1 := by rcases B.2.2 with d | d <;> omega
    have hn0 := I.1
    refine br_f (nI_pos (by omega)) (xc_some (by omega) (fun h => ?_) (fun h => ?_))
    · refine br_t rfl ?_
      intro y ey
      rw [ey]
      exact ih f n cx cy (by omega) (by omega) (by omega) B (hu_uskip ck h I)
    · refine br_f (by decide) (br_f ?_ ?_)
      · rw [nI_eq (by omega) (by omega)]; omega
      · have cb := ck.1
        have cb2 := ck.2.1
        have es : hu_sq (hi k) := ⟨by omega, cb2⟩
        refine ⟨vp_in_nI (by omega) (by omega), ?_⟩
        rw [e1]
        have exk : (nI k).toInt = (k : Int) := nI_toInt (by omega)
        refine xp_add (b0 := b0) (fun t => hu_PI (fun i => -hu_z cx i) (fun i => -hu_z cy i) (hu_QU (hu_R c fa fb fc) (k + 1)) (-(k : Int)) (-(hi k).toInt) t) (by omega) bb.1 (by omega)
          (fun i h => xp_sq (hu_uin B I i h)) (xp_sqn (by omega)) es (hu_pi0 I (hu_ulast I)) ?_ ?_ ?_
        · intro t h1 h2 hP hl
          refine hu_pi1 I (hu_ulast I) h1 h2 hP ?_
          rw [exk] at hl
          have g := xp_ngt (hu_z cx) (hu_z cy) (t - 2) (t - 1) (k : Int) (hi k).toInt
          exact Int.le_trans (Int.le_of_eq g) hl
        · rcases B.2.2 with d | d
          · exact Or.inl d.1
          · refine Or.inr ⟨d.1, ?_⟩
            have g1 := B.2.1
            have g2 := d.2.1
            have g3 := d.2.2.1
            rw [d.1] at g2 g3
            rw [g1, g2, exk]
            have et : hu_tn (la : Int) (hu_z cy b) (la : Int) (hu_z cy (b + 1)) (k : Int) (hi k).toInt = (hu_z cy (b + 1) - hu_z cy b) * ((la : Int) - (k : Int)) := by unfold hu_tn; grind
            rw [et]
            exact Int.mul_pos (by omega) (by omega)
        · intro t h1 h2 hP h4
          have hbt : b0 < t := by omega
          intro y ey
          rw [ey]
          refine ih f (t + 1) _ _ (by omega) (by omega) (by omega) (hu_ubx B (fun i h => ⟨hu_zn _ _ (by omega), hu_zn _ _ (by omega)⟩)) ?_
          refine hu_upush ck h I hbt h1 ⟨hP, ?_⟩ (fun i h => ⟨hu_zn _ _ h, hu_zn _ _ h⟩) ⟨by rw [hu_zs]; exact exk, hu_zs _ _ _⟩
          have g := xp_ngt (hu_z cx) (hu_z cy) (t - 2) (t - 1) (k : Int) (hi k).toInt
          rw [exk] at h4
          rcases Nat.lt_or_ge (b0 + 1) t with w | w
          · exact Or.inr ⟨w, by omega⟩
          · exact Or.inl (by omega)
/-- .. with the last column ahead of it -/
theorem xp_up0 {post : SX → Prop} {c la b : Nat} {fa fb fc lo hi : Nat → Int32} (hla : la < 41) (hb : b ≤ 40) (hc : hu_cols (hu_R c fa fb fc) lo hi) (F : xp_Fin post c fa fb fc lo hi)
    (cx cy : Nat → Int32) (C : hu_CH (hu_z cx) (hu_z cy) (hu_R c fa fb fc) 0 (b + 1)) (e : hu_z cx b = la) :
    wX_prepare_75 post (nI la) (nI b) (la + 3) (nI la) (nI c) 1 (nI (b + 1)) fa fb fc lo hi cx cy := by
  have ck := hc la hla
  have e1 : (nI la).toNatClampNeg = la := nI_clamp (by omega)
  have v1 : vp_in (nI la) 41 := vp_in_nI hla (by omega)
  have rr := C.2.1 b (by omega) (by omega)
  rw [e] at rr
  have r2 := (ck.2.2 _).mp rr
  refine br_f (nI_pos (by omega)) (xc_some hla (fun h => by omega) (fun h => ?_))
  refine br_f (by decide) (br_t rfl ⟨v1, v1, ?_⟩)
  rw [e1]
  refine br_c (fun h1 => ?_) (fun h1 => ?_)
  · intro y ey
    rw [ey]
    obtain ⟨B, U⟩ := hu_u0a C e ck (congrArg Int32.toInt h1)
    exact xp_up hla hb hc F la (la + 2) (b + 1) cx cy (by omega) (Nat.le_refl _) (by omega) B U
  · have hlt : (lo la).toInt < (hi la).toInt := by
      have : (lo la).toInt ≠ (hi la).toInt := fun z => h1 (Int32.toInt_inj.mp z)
      omega
    have cb := ck.1
    have cb2 := ck.2.1
    have es : hu_sq (hi la) := ⟨by omega, cb2⟩
    refine ⟨v1, ?_⟩
    rw [e1]
    refine xp_add (b0 := b) (fun _ => True) (by omega) (Nat.le_refl _) (by omega) (fun i h => xp_sq (C.2.1 i (by omega) h)) (xp_sqn hla) es trivial (fun _ _ _ _ _ => trivial) (Or.inl rfl) ?_
    intro t h1 h2 _ _
    have et : t = b + 1 := by omega
    rw [et]
    intro y ey
    rw [ey]
    obtain ⟨B, U⟩ := hu_u0b (X' := hu_z (upd cx (b + 1) (nI la))) (Y' := hu_z (upd cy (b + 1) (hi la))) C e ck hlt (fun i h => ⟨hu_zn _ _ h, hu_zn _ _ h⟩) ⟨by rw [hu_zs]; exact nI_toInt (by omega), hu_zs _ _ _⟩
    exact xp_up hla hb hc F la (la + 2) (b + 1 + 1) _ _ (by omega) (Nat.le_refl _) (by omega) B U
/-- the way there -/
theorem xp_low {post : SX → Prop} {c : Nat} {fa fb fc : Nat → Int32} (hc : c ≤ 8) (hB : hu_B fa fb fc) (F : ∀ lo hi, hu_cols (hu_R c fa fb fc) lo hi → xp_Fin post c fa fb fc lo hi) :
    ∀ (d k f n : Nat) (la : Int32) (lo hi cx cy : Nat → Int32), k + d = 41 → d < f → (∀ j, j < k → hu_col (hu_R c fa fb fc) j (lo j).toInt (hi j).toInt) → hu_LI (hu_R c fa fb fc) k n la.toInt (hu_z cx) (hu_z cy) →
      wX_prepare_22 post f la (nI k) (nI c) 1 (nI n) fa fb fc lo hi cx cy := by
  intro d
  induction d with
  | zero =>
    intro k f n la lo hi cx cy hk hf hj I
    obtain ⟨f, rfl⟩ : ∃ g, f = g + 1 := ⟨f - 1, by omega⟩
    have ek : k = 41 := by omega
    subst ek
    have R0 := hu_Rn c fa fb fc
    refine br_t (nI_le (a := 41) (Nat.le_refl _) (by omega)) ?_
    rcases I with ⟨i1, i2, i3⟩ | ⟨i1, i2, C, i4, i5⟩
    · refine br_f (by rw [Int32.le_iff_toInt_le, hu_t0]; omega) ?_
      rw [i1]
      exact F lo hi hj 0 cx cy (by omega) (hu_ok0 (fun x y r => i3 x y ⟨r, by have := R0 x y r; omega⟩) _ _)
    · refine br_t (by rw [Int32.le_iff_toInt_le, hu_t0]; omega) ?_
      have C1 := hu_l41 R0 C
      have q := R0 _ _ (C1.2.1 (n - 1) (by omega) (by omega))
      have en : nI n - 1 = nI (n - 1) := pk_sub (b := 1) (by omega)
      intro y ey
      rw [ey, en]
      obtain ⟨lw, elw⟩ : ∃ lw : Nat, la.toInt = (lw : Int) := ⟨la.toInt.toNat, by omega⟩
      have hlw : lw < 41 := by omega
      have ela : la = nI lw := Int32.toInt_inj.mp (by rw [elw, nI_toInt (by omega)])
      rw [ela]
      have en2 : n - 1 + 1 = n := by omega
      have Z := xp_up0 (post := post) (b := n - 1) hlw (by omega) hj (F lo hi hj) cx cy (by rw [en2]; exact C1) (by rw [i4, elw])
      rw [en2] at Z
      exact ⟨_, Z⟩
  | succ d ih =>
    intro k f n la lo hi cx cy hk hf hj I
    obtain ⟨f, rfl⟩ : ∃ g, f = g + 1 := ⟨f - 1, by omega⟩
    have e1 : (nI k).toNatClampNeg = k := nI_clamp (by omega)
    have exk : (nI k).toInt = (k : Int) := nI_toInt (by omega)
    refine br_f (nI_ge (b := 41) (by omega) (by omega)) (xc_fill (by omega) hc hB (fun l h hs ck => ?_))
    have hj2 : ∀ j, j < k + 1 → hu_col (hu_R c fa fb fc) j (l j).toInt (h j).toInt := by
      intro j hjk
      rcases Nat.lt_or_ge j k with z | z
      · rw [(hs j (by omega)).1, (hs j (by omega)).2]
        exact hj j z
      · have : j = k := by omega
        rw [this]; exact ck
    refine xc_some (by omega) (fun hh => ?_) (fun hh => ?_)
    · refine br_t rfl ?_
      intro y ey
      rw [ey, nI_1]
      exact ih (k + 1) f n la l h cx cy (by omega) (by omega) hj2 (hu_lskip ck hh I)
    · have cb := ck.1
      have cb2 := ck.2.1
      have es : hu_sq (l k) := ⟨cb, by omega⟩
      refine br_f (by decide) ⟨vp_in_nI (by omega) (by omega), ?_⟩
      rw [e1]
      have fin : ∀ t, hu_LP (hu_R c fa fb fc) k n (hu_z cx) (hu_z cy) k (l k).toInt t → wX_prepare_22 post f (nI k) (nI (k + 1)) (nI c) 1 (nI (t + 1)) fa fb fc l h (upd cx t (nI k)) (upd cy t (l k)) := by
        intro t LP
        refine ih (k + 1) f (t + 1) (nI k) l h _ _ (by omega) (by omega) hj2 ?_
        rw [exk]
        exact hu_lpush ck hh I LP (fun i h => ⟨hu_zn _ _ h, hu_zn _ _ h⟩) ⟨by rw [hu_zs]; exact exk, hu_zs _ _ _⟩
      rcases I with ⟨i1, i2, i3⟩ | ⟨i1, i2, C, i4, i5⟩
      · rw [i1] at fin ⊢
        refine xp_add (base := 0) (b0 := 0) (fun _ => True) (by omega) (Nat.le_refl _) (by omega) (fun i h => by omega) (xp_sqn (by omega)) es trivial (fun _ _ _ _ _ => trivial) (Or.inl rfl) ?_
        intro t h1 h2 _ _
        have et : t = 0 := by omega
        rw [et]
        intro y ey
        rw [ey, nI_1]
        exact fin 0 (Or.inl ⟨rfl, rfl⟩)
      · have hp := (C.2.1 (n - 1) (by omega) (by omega)).2
        refine xp_add (base := 0) (b0 := 0) (fun t => hu_PI (hu_z cx) (hu_z cy) (hu_QL (hu_R c fa fb fc) k) (k : Int) (l k).toInt t) (by omega) (Nat.le_refl _) (by omega)
          (fun i h => xp_sq (C.2.1 i (by omega) h).1) (xp_sqn (by omega)) es (hu_pi0 C hp) ?_ (Or.inl rfl) ?_
        · intro t h1 h2 hP hl
          rw [exk] at hl
          exact hu_pi1 C hp h1 h2 hP hl
        · intro t h1 h2 hP h4
          rw [exk] at h4
          intro y ey
          rw [ey, nI_1]
          refine fin t (Or.inr ⟨by omega, h1, hP, ?_⟩)
          rcases Nat.lt_or_ge (0 + 1) t with w | w
          · exact Or.inr ⟨w, by omega⟩
          · exact Or.inl (by omega)
theorem xp_prep {post : SX → Prop} {c : Nat} {n : Int32} {fa fb fc lo hi cx cy : Nat → Int32} (hc : c ≤ 8) (hB : hu_B fa fb fc) (F : ∀ lo hi, hu_cols (hu_R c fa fb fc) lo hi → xp_Fin post c fa fb fc lo hi) :
    wpX_prepare post (nI c, 0, n, fa, fb, fc, lo, hi, cx, cy) := by
  refine br_t rfl ⟨42, ?_⟩
  exact xp_low hc hB F 41 0 42 0 (-1) lo hi cx cy (by omega) (by omega) (fun j hj => by omega) (by rw [hu_tm]; exact hu_l0 (hu_Rn c fa fb fc) _ _)
end
section
/-! the reference: codes of points, turn, distance, has -/
def hu_cd (x y : Nat) : Int32 := nI (x + 64 * y)
theorem hu_cdx {x y : Nat} (hx : x < 41) (hy : y < 41) : hu_cd x y &&& 63 = nI x := by
  unfold hu_cd
  rw [pk_andN (by omega) 6 (by decide)]
  exact congrArg nI (by omega)
theorem hu_cdy {x y : Nat} (hx : x < 41) (hy : y < 41) : hu_cd x y >>> ((6 : Int32) &&& 31) = nI y := by
  unfold hu_cd
  rw [pk_shrN (by omega) _ 6 (by decide)]
  exact congrArg nI (by omega)
theorem hu_cdi {x y x' y' : Nat} (hx : x < 41) (hy : y < 41) (hx' : x' < 41) (hy' : y' < 41) : hu_cd x y = hu_cd x' y' ↔ x = x' ∧ y = y' := by
  unfold hu_cd
  rw [nI_eq (by omega) (by omega)]
  omega
theorem yb_turn {post : Int32 → Prop} {c l s : Int32} {fa fb fc li hu : Nat → Int32} {px py qx qy rx ry : Nat} (h1 : px < 41) (h2 : py < 41) (h3 : qx < 41) (h4 : qy < 41) (h5 : rx < 41) (h6 : ry < 41)
    (K : ∀ t : Int32, t.toInt = hu_tn px py qx qy rx ry → post t) : wpY_turn post (c, l, s, fa, fb, fc, li, hu) (hu_cd px py) (hu_cd qx qy) (hu_cd rx ry) := by
  simp only [wpY_turn, wpY_xOf, wpY_yOf, hu_cdx h1 h2, hu_cdy h1 h2, hu_cdx h3 h4, hu_cdy h3 h4, hu_cdx h5 h6, hu_cdy h5 h6]
  refine K _ ?_
  have := hu_t32 (xp_sqn h1) (xp_sqn h2) (xp_sqn h3) (xp_sqn h4) (xp_sqn h5) (xp_sqn h6)
  rw [this, nI_toInt (by omega), nI_toInt (by omega), nI_toInt (by omega), nI_toInt (by omega), nI_toInt (by omega), nI_toInt (by omega)]
def hu_ds2 (px py qx qy : Int) : Int := (qx - px) * (qx - px) + (qy - py) * (qy - py)
theorem yb_dist {post : Int32 → Prop} {c l s : Int32} {fa fb fc li hu : Nat → Int32} {px py qx qy : Nat} (h1 : px < 41) (h2 : py < 41) (h3 : qx < 41) (h4 : qy < 41)
    (K : ∀ t : Int32, t.toInt = hu_ds2 px py qx qy → post t) : wpY_distance post (c, l, s, fa, fb, fc, li, hu) (hu_cd px py) (hu_cd qx qy) := by
  simp only [wpY_distance, wpY_xOf, wpY_yOf, hu_cdx h1 h2, hu_cdy h1 h2, hu_cdx h3 h4, hu_cdy h3 h4]
  intro a ea b eb
  refine K _ ?_
  have e1 : a.toInt = (qx : Int) - px := by rw [ea]; exact hu_sub (nI_toInt (by omega)) (nI_toInt (by omega)) (by omega) (by omega)
  have e2 : b.toInt = (qy : Int) - py := by rw [eb]; exact hu_sub (nI_toInt (by omega)) (nI_toInt (by omega)) (by omega) (by omega)
  have m1 := hu_mb (a := (qx : Int) - px) (b := (qx : Int) - px) (K := 40) (M := 40) (by omega) (by omega)
  have m2 := hu_mb (a := (qy : Int) - py) (b := (qy : Int) - py) (K := 40) (M := 40) (by omega) (by omega)
  exact hu_add (hu_mul e1 e1 (by omega) (by omega)) (hu_mul e2 e2 (by omega) (by omega)) (by omega) (by omega)
theorem yb_cmp {c : Nat} {fa fb fc : Nat → Int32} (hB : hu_B fa fb fc) {x y : Nat} (hx : x < 41) (hy : y < 41) : (fa c * nI x + fb c * nI y ≤ fc c) ↔ (fa c).toInt * x + (fb c).toInt * y ≤ (fc c).toInt := by
  obtain ⟨b1, b2, b3, b4, b5, b6⟩ := hB c
  have m1 := hu_mb (a := (fa c).toInt) (b := (x : Int)) (K := 9) (M := 40) (by omega) (by omega)
  have m2 := hu_mb (a := (fb c).toInt) (b := (y : Int)) (K := 9) (M := 40) (by omega) (by omega)
  rw [Int32.le_iff_toInt_le, hu_add (hu_mul rfl (nI_toInt (n := x) (by omega)) (by omega) (by omega)) (hu_mul rfl (nI_toInt (n := y) (by omega)) (by omega) (by omega)) (by omega) (by omega)]
theorem yb_hasl {post : Int32 → Prop} {c : Nat} {l s : Int32} {fa fb fc li hu : Nat → Int32} (hc : c ≤ 8) (hB : hu_B fa fb fc) {x y : Nat} (hx : x < 41) (hy : y < 41)
    (h1 : hu_R c fa fb fc x y → post 1) (h0 : ¬ hu_R c fa fb fc x y → post 0) :
    ∀ (d k f : Nat), k + d = c → d < f → hu_R k fa fb fc x y → wY_has_24 post (nI x) (nI y) (nI c) l s fa fb fc li hu f (nI k) := by
  intro d
  induction d with
  | zero =>
    intro k f e hf I
    obtain ⟨f, rfl⟩ : ∃ g, f = g + 1 := ⟨f - 1, by omega⟩
    have ek : k = c := by omega
    subst ek
    exact br_t (nI_le (Nat.le_refl _) (by omega)) (h1 I)
  | succ d ih =>
    intro k f e hf I
    obtain ⟨f, rfl⟩ : ∃ g, f = g + 1 := ⟨f - 1, by omega⟩
    have v1 : vp_in (nI k) 8 := vp_in_nI (by omega) (by omega)
    have e1 : (nI k).toNatClampNeg = k := nI_clamp (by omega)
    refine br_f (nI_ge (by omega) (by omega)) ⟨v1, v1, v1, ?_⟩
    rw [e1]
    refine br_c (fun h => ?_) (fun h => h0 (fun r => h ?_))
    · intro z ez
      rw [ez, nI_1]
      exact ih (k + 1) f (by omega) (by omega) (hu_Rs.mpr ⟨I, (yb_cmp hB hx hy).mp h⟩)
    · exact (yb_cmp hB hx hy).mpr (r.2.2.2.2 k (by omega))
theorem yb_has {post : Int32 → Prop} {c : Nat} {l s : Int32} {fa fb fc li hu : Nat → Int32} (hc : c ≤ 8) (hB : hu_B fa fb fc) {x y : Nat} (hx : x < 41) (hy : y < 41)
    (h1 : hu_R c fa fb fc x y → post 1) (h0 : ¬ hu_R c fa fb fc x y → post 0) : wpY_has post (nI c, l, s, fa, fb, fc, li, hu) (nI x) (nI y) := by
  refine br_f (nI_pos (by omega)) (br_f (nI_nlt (b := x) (a := 40) (by omega) (by omega)) (br_f (nI_pos (by omega)) (br_t (nI_le (b := 40) (by omega) (by omega)) ⟨c + 1, ?_⟩)))
  exact yb_hasl hc hB hx hy h1 h0 c 0 (c + 1) (by omega) (by omega) ⟨by omega, by omega, by omega, by omega, fun k hk => by omega⟩
/-! the next corner -/
theorem hu_sqm {p b t : Int} (h : (p ≤ b ∧ b ≤ t) ∨ (t ≤ b ∧ b ≤ p)) : (b - p) * (b - p) ≤ (t - p) * (t - p) ∧ ((t - p) * (t - p) ≤ (b - p) * (b - p) → b = t) := by
  have e1 : (p - b) * (p - b) = (b - p) * (b - p) := by grind
  have e2 : (p - t) * (p - t) = (t - p) * (t - p) := by grind
  rcases h with h | h
  · refine ⟨Int.mul_self_le_mul_self (by omega) (by omega), fun z => ?_⟩
    rcases hu_lg b t with w | w
    · have := Int.mul_self_lt_mul_self (a := b - p) (b := t - p) (by omega) (by omega)
      omega
    · omega
  · have k := Int.mul_self_le_mul_self (a := p - b) (b := p - t) (by omega) (by omega)
    refine ⟨by omega, fun z => ?_⟩
    rcases hu_lg t b with w | w
    · have := Int.mul_self_lt_mul_self (a := p - b) (b := p - t) (by omega) (by omega)
      omega
    · omega
theorem hu_dle {px py tx ty bx bz : Int} (h : hu_bt px py tx ty bx bz) : hu_ds2 px py bx bz ≤ hu_ds2 px py tx ty ∧ (hu_ds2 px py tx ty ≤ hu_ds2 px py bx bz → bx = tx ∧ bz = ty) := by
  obtain ⟨a1, a2⟩ := hu_sqm h.1
  obtain ⟨b1, b2⟩ := hu_sqm h.2
  unfold hu_ds2
  refine ⟨by omega, fun z => ⟨a2 (by omega), b2 (by omega)⟩⟩
/-- the list of the points: each place holds one, each has a place -/
def yn_L (R : Int → Int → Prop) (N : Nat) (li : Nat → Int32) : Prop :=
  N ≤ 1681 ∧ (∀ k, k < N → ∃ x y : Nat, x < 41 ∧ y < 41 ∧ R x y ∧ li k = hu_cd x y) ∧ (∀ x y : Nat, R x y → ∃ k, k < N ∧ li k = hu_cd x y)
theorem yn_loop {post : Int32 → Prop} {R : Int → Int → Prop} {N : Nat} {c s : Int32} {fa fb fc li hu : Nat → Int32} {px py tx ty : Nat} (hL : yn_L R N li) (hR : hu_box R) (rp : R px py) (rt : R tx ty) (S : hu_Sup R px py tx ty) (K : post (hu_cd tx ty)) :
    ∀ (d k f bx bz : Nat), k + d = N → d < f → R bx bz → (∀ j, j < k → li j = hu_cd tx ty → bx = tx ∧ bz = ty) → wY_next_4 post (hu_cd px py) c (nI N) s fa fb fc li hu f (hu_cd bx bz) (nI k) := by
  have hN := hL.1
  have bp := hR _ _ rp
  have btt := hR _ _ rt
  intro d
  induction d with
  | zero =>
    intro k f bx bz e hf rb I
    obtain ⟨f, rfl⟩ : ∃ g, f = g + 1 := ⟨f - 1, by omega⟩
    have ek : k = N := by omega
    subst ek
    obtain ⟨j, hj, ej⟩ := hL.2.2 tx ty rt
    obtain ⟨e1, e2⟩ := I j hj ej
    rw [e1, e2]
    exact br_t (nI_le (Nat.le_refl _) (by omega)) K
  | succ d ih =>
    intro k f bx bz e hf rb I
    obtain ⟨f, rfl⟩ : ∃ g, f = g + 1 := ⟨f - 1, by omega⟩
    have bb := hR _ _ rb
    obtain ⟨x, y, hx, hy, rq, eq⟩ := hL.2.1 k (by omega)
    have e1 : (nI k).toNatClampNeg = k := nI_clamp (by omega)
    refine br_f (nI_ge (by omega) (by omega)) ⟨vp_in_nI (by omega) (by omega), fun v ev => ?_⟩
    rw [e1, eq] at ev
    rw [ev]
    -- keep the best one, or take the new one
    have keep : (x = tx ∧ y = ty → bx = tx ∧ bz = ty) → wY_next_4 post (hu_cd px py) c (nI N) s fa fb fc li hu f (hu_cd bx bz) (nI k + 1) := by
      intro h
      rw [nI_1]
      refine ih (k + 1) f bx bz (by omega) (by omega) rb (fun j hj ej => ?_)
      rcases Nat.lt_or_ge j k with z | z
      · exact I j z ej
      · have ejk : j = k := by omega
        rw [ejk, eq] at ej
        exact h ((hu_cdi hx hy (by omega) (by omega)).mp ej)
    have take : (bx = tx ∧ bz = ty → x = tx ∧ y = ty) → wY_next_4 post (hu_cd px py) c (nI N) s fa fb fc li hu f (hu_cd x y) (nI k + 1) := by
      intro h
      rw [nI_1]
      refine ih (k + 1) f x y (by omega) (by omega) rq (fun j hj ej => ?_)
      rcases Nat.lt_or_ge j k with z | z
      · exact h (I j z ej)
      · have ejk : j = k := by omega
        rw [ejk, eq] at ej
        exact (hu_cdi hx hy (by omega) (by omega)).mp ej
    obtain ⟨s1, s2⟩ := S _ _ rb
    obtain ⟨q1, q2⟩ := S _ _ rq
    refine yb_turn (by omega) (by omega) (by omega) (by omega) hx hy (fun t et => br_c (fun h => ?_) (fun h => br_c (fun h2 => ?_) (fun h2 => br_c (fun h3 => ?_) (fun h3 => ?_))))
    · intro z ez
      rw [ez]
      refine take (fun g => ?_)
      rw [hu_cdi (by omega) (by omega) (by omega) (by omega)] at h
      have f1 : tx = px := by omega
      have f2 : ty = py := by omega
      rw [f1, f2] at q2 ⊢
      have g2 := q2 (by unfold hu_tn; grind)
      unfold hu_bt at g2
      omega
    · rw [Int32.lt_iff_toInt_lt, hu_t0, et] at h2
      intro z ez
      rw [ez]
      refine take (fun g => ?_)
      rw [g.1, g.2] at h2
      omega
    · rw [h3, hu_t0] at et
      refine yb_dist (by omega) (by omega) hx hy (fun a ea => yb_dist (by omega) (by omega) (by omega) (by omega) (fun b eb => br_c (fun h4 => ?_) (fun h4 => ?_)))
      · rw [Int32.le_iff_toInt_le, ea, eb] at h4
        intro z ez
        rw [ez]
        refine keep (fun g => ?_)
        rw [g.1, g.2] at h4 et
        have sw := hu_sw (px : Int) py tx ty bx bz
        have sw2 := hu_sw (px : Int) py bx bz tx ty
        have g2 := (hu_dle (s2 (by omega))).2 h4
        omega
      · rw [Int32.le_iff_toInt_le, ea, eb] at h4
        intro z ez
        rw [ez]
        refine take (fun g => ?_)
        rw [g.1, g.2] at h4 et
        have g2 := (hu_dle (q2 (by omega))).1
        omega
    · have t3 : t.toInt ≠ 0 := fun z => h3 (Int32.toInt_inj.mp (by rw [z, hu_t0]))
      rw [Int32.lt_iff_toInt_lt, hu_t0] at h2
      intro z ez
      rw [ez]
      refine keep (fun g => ?_)
      rw [g.1, g.2] at et
      have sw := hu_sw (px : Int) py bx bz tx ty
      omega
theorem yn_next {post : Int32 → Prop} {R : Int → Int → Prop} {N : Nat} {c s : Int32} {fa fb fc li hu : Nat → Int32} {px py tx ty : Nat} (hL : yn_L R N li) (hR : hu_box R) (rp : R px py) (rt : R tx ty) (S : hu_Sup R px py tx ty) (K : post (hu_cd tx ty)) :
    wpY_next post (c, nI N, s, fa, fb, fc, li, hu) (hu_cd px py) :=
  ⟨N + 1, yn_loop hL hR rp rt S K N 0 (N + 1) px py (by omega) (by omega) rp (fun j hj => by omega)⟩
end
section
/-! the reference's walk round, and its list -/
theorem hu_okc {R : Int → Int → Prop} {m : Nat} {X Y X' Y' : Nat → Int} (h : hu_OK R m X Y) (e : ∀ i, i < m → X' i = X i ∧ Y' i = Y i) : hu_OK R m X' Y' := by
  obtain ⟨h1, h2, h3, h4, h5⟩ := h
  refine ⟨fun i hi => ?_, h2, fun x y r => ?_, fun i hi => ?_, fun i h0 hi => ?_⟩
  · rw [(e i hi).1, (e i hi).2]; exact h1 i hi
  · rcases Nat.eq_zero_or_pos m with z | z
    · exact absurd r (h2 z x y)
    · rw [(e 0 z).1, (e 0 z).2]; exact h3 x y r
  · have n := hu_nxl (m := m) (i := i) (by omega)
    rw [(e i hi).1, (e i hi).2, (e _ n).1, (e _ n).2]; exact h4 i hi
  · rw [(e i hi).1, (e i hi).2, (e 0 (by omega)).1, (e 0 (by omega)).2]; exact h5 i h0 hi
def hu_aw (m k : Nat) : Nat := if k < m then k else 0
theorem hu_aw1 {m k : Nat} (h : k < m) : hu_aw m k = k := if_pos h
theorem hu_aw0 (m : Nat) : hu_aw m m = 0 := if_neg (by omega)
theorem hu_awn {m k : Nat} : hu_nx m k = hu_aw m (k + 1) := rfl
def yw_H (R : Int → Int → Prop) (m : Nat) (CX CY : Nat → Nat) : Prop := m ≤ 82 ∧ hu_OK R m (fun i => (CX i : Int)) (fun i => (CY i : Int))
theorem yw_loop {post : SY → Prop} {R : Int → Int → Prop} {N m : Nat} {c : Int32} {fa fb fc li : Nat → Int32} {CX CY : Nat → Nat} (hL : yn_L R N li) (hR : hu_box R) (hH : yw_H R m CX CY) (hm : 0 < m) (h0 : li 0 = hu_cd (CX 0) (CY 0))
    (K : ∀ hu' : Nat → Int32, (∀ i, i < m → hu' i = hu_cd (CX i) (CY i)) → post (c, nI N, nI m, fa, fb, fc, li, hu')) :
    ∀ (d k f : Nat) (hu : Nat → Int32), k + d = m → d < f → (∀ i, i < k → hu i = hu_cd (CX i) (CY i)) → wY_walk_22 post c (nI N) f (hu_cd (CX (hu_aw m k)) (CY (hu_aw m k))) (nI k) (nI k) fa fb fc li hu := by
  have m82 := hH.1
  have H := hH.2
  intro d
  induction d with
  | zero =>
    intro k f hu e hf hi
    obtain ⟨f, rfl⟩ : ∃ g, f = g + 1 := ⟨f - 1, by omega⟩
    have ek : k = m := by omega
    subst ek
    rw [hu_aw0]
    exact br_f (nI_ge (b := 256) (by omega) (by omega)) (br_f (nI_ne0 hm (by omega)) (br_t h0.symm (K hu hi)))
  | succ d ih =>
    intro k f hu e hf hi
    obtain ⟨f, rfl⟩ : ∃ g, f = g + 1 := ⟨f - 1, by omega⟩
    have hk : k < m := by omega
    rw [hu_aw1 hk]
    have go : wY_walk_43 post (wY_walk_22 post c (nI N) f) (hu_cd (CX k) (CY k)) (nI k) c (nI N) (nI k) fa fb fc li hu := by
      have e1 : (nI k).toNatClampNeg = k := nI_clamp (by omega)
      refine ⟨vp_in_nI (by omega) (by omega), fun h' eh s es => ?_⟩
      rw [e1] at eh
      refine yn_next hL hR (H.1 k hk) (H.1 _ (hu_nxl (i := k) hm)) (H.2.2.2.1 k hk) ?_
      intro y ey
      rw [ey, es, nI_1, hu_awn]
      refine ih (k + 1) f h' (by omega) (by omega) (fun i hik => ?_)
      rw [eh]
      rcases Nat.lt_or_ge i k with z | z
      · rw [pk_un (by omega)]; exact hi i z
      · have : i = k := by omega
        rw [this]; exact pk_us
    refine br_f (nI_ge (b := 256) (by omega) (by omega)) ?_
    rcases Nat.eq_zero_or_pos k with z | z
    · have z1 : nI k = 0 := by rw [z]; exact nI_0
      exact br_t z1 go
    · refine br_f (nI_ne0 z (by omega)) (br_f ?_ go)
      rw [h0]
      have b1 := hR _ _ (H.1 k hk)
      have b0 := hR _ _ (H.1 0 hm)
      have b1' : 0 ≤ (CX k : Int) ∧ (CX k : Int) ≤ 40 ∧ 0 ≤ (CY k : Int) ∧ (CY k : Int) ≤ 40 := b1
      have b0' : 0 ≤ (CX 0 : Int) ∧ (CX 0 : Int) ≤ 40 ∧ 0 ≤ (CY 0 : Int) ∧ (CY 0 : Int) ≤ 40 := b0
      rw [hu_cdi (by omega) (by omega) (by omega) (by omega)]
      have ne := H.2.2.2.2 k z hk
      have ne' : ¬ ((CX k : Int) = CX 0 ∧ (CY k : Int) = CY 0) := ne
      omega
theorem yw_walk {post : SY → Prop} {R : Int → Int → Prop} {N m : Nat} {c s : Int32} {fa fb fc li hu : Nat → Int32} {CX CY : Nat → Nat} (hL : yn_L R N li) (hR : hu_box R) (hH : yw_H R m CX CY) (h0 : 0 < m → li 0 = hu_cd (CX 0) (CY 0))
    (K : ∀ hu' : Nat → Int32, (∀ i, i < m → hu' i = hu_cd (CX i) (CY i)) → post (c, nI N, nI m, fa, fb, fc, li, hu')) :
    wpY_walk post (c, nI N, s, fa, fb, fc, li, hu) := by
  have hN := hL.1
  rcases Nat.eq_zero_or_pos N with z | z
  · have m0 : m = 0 := by
      rcases Nat.eq_zero_or_pos m with w | w
      · exact w
      · obtain ⟨k, hk, _⟩ := hL.2.2 _ _ (hH.2.1 0 w)
        omega
    have zN : nI N = 0 := by rw [z]; exact nI_0
    have k0 := K hu (fun i hi => by omega)
    rw [m0, nI_0] at k0
    exact br_t zN k0
  · have m0 : 0 < m := by
      rcases Nat.eq_zero_or_pos m with w | w
      · obtain ⟨x, y, _, _, r, _⟩ := hL.2.1 0 z
        exact absurd r (hH.2.2.1 w _ _)
      · exact w
    refine br_f (nI_ne0 z (by omega)) ?_
    intro y ey
    refine ⟨m + 1, ?_⟩
    have L := yw_loop (post := post) (c := c) (fa := fa) (fb := fb) (fc := fc) hL hR hH m0 (h0 m0) K m 0 (m + 1) hu (by omega) (by omega) (fun i hi => by omega)
    rw [hu_aw1 m0, nI_0] at L
    rw [ey, h0 m0]
    exact L
/-- cell j of the square belongs to the region -/
def yr_P (c : Nat) (fa fb fc : Nat → Int32) (j : Nat) : Prop := hu_R c fa fb fc ((j / 41 : Nat) : Int) ((j % 41 : Nat) : Int)
def yr_li (c : Nat) (fa fb fc li : Nat → Int32) (n : Nat) : Prop := ∀ i, i < n → yr_P c fa fb fc i → li (hu_ct (yr_P c fa fb fc) i) = hu_cd (i / 41) (i % 41)
theorem yr_L {c : Nat} {fa fb fc li : Nat → Int32} (h : yr_li c fa fb fc li 1681) : yn_L (hu_R c fa fb fc) (hu_ct (yr_P c fa fb fc) 1681) li := by
  refine ⟨hu_ctle _ _, fun k hk => ?_, fun x y r => ?_⟩
  · obtain ⟨j, hj, p, e⟩ := hu_ctx 1681 hk
    exact ⟨j / 41, j % 41, by omega, by omega, p, by rw [← e]; exact h j hj p⟩
  · have b := hu_Rb c fa fb fc _ _ r
    have e1 : (41 * x + y) / 41 = x := by omega
    have e2 : (41 * x + y) % 41 = y := by omega
    have p : yr_P c fa fb fc (41 * x + y) := by
      unfold yr_P
      rw [e1, e2]; exact r
    refine ⟨_, hu_ctl (n := 1681) (by omega) p, ?_⟩
    have := h (41 * x + y) (by omega) p
    rw [e1, e2] at this
    exact this
theorem yr_0 {c m : Nat} {fa fb fc li : Nat → Int32} {CX CY : Nat → Nat} (h : yr_li c fa fb fc li 1681) (hH : yw_H (hu_R c fa fb fc) m CX CY) (hm : 0 < m) : li 0 = hu_cd (CX 0) (CY 0) := by
  have r := hH.2.1 0 hm
  have r' : hu_R c fa fb fc (CX 0 : Int) (CY 0 : Int) := r
  have b := hu_Rb c fa fb fc _ _ r'
  have e1 : (41 * CX 0 + CY 0) / 41 = CX 0 := by omega
  have e2 : (41 * CX 0 + CY 0) % 41 = CY 0 := by omega
  have p : yr_P c fa fb fc (41 * CX 0 + CY 0) := by
    unfold yr_P
    rw [e1, e2]; exact r'
  have z : hu_ct (yr_P c fa fb fc) (41 * CX 0 + CY 0) = 0 := by
    rcases Nat.eq_zero_or_pos (hu_ct (yr_P c fa fb fc) (41 * CX 0 + CY 0)) with w | w
    · exact w
    · obtain ⟨j, hj, pj, _⟩ := hu_ctx (P := yr_P c fa fb fc) (k := 0) (41 * CX 0 + CY 0) w
      have lm := hH.2.2.2.1 _ _ pj
      have lm' : (CX 0 : Int) < ((j / 41 : Nat) : Int) ∨ ((CX 0 : Int) = ((j / 41 : Nat) : Int) ∧ (CY 0 : Int) ≤ ((j % 41 : Nat) : Int)) := lm
      omega
  have := h (41 * CX 0 + CY 0) (by omega) p
  rw [z, e1, e2] at this
  exact this
theorem yr_loop {post : SY → Prop} {c : Nat} {s : Int32} {m : Nat} {CX CY : Nat → Nat} {fa fb fc hu : Nat → Int32} (hc : c ≤ 8) (hB : hu_B fa fb fc) (H : yw_H (hu_R c fa fb fc) m CX CY)
    (K : ∀ li hu' : Nat → Int32, yr_li c fa fb fc li 1681 → (∀ i, i < m → hu' i = hu_cd (CX i) (CY i)) → post (nI c, nI (hu_ct (yr_P c fa fb fc) 1681), nI m, fa, fb, fc, li, hu')) :
    ∀ (d j f : Nat) (li : Nat → Int32), j + d = 1681 → d < f → yr_li c fa fb fc li j → wY_refresh_7 post (nI c) s f (nI j) (nI (hu_ct (yr_P c fa fb fc) j)) fa fb fc li hu := by
  intro d
  induction d with
  | zero =>
    intro j f li e hf I
    obtain ⟨f, rfl⟩ : ∃ g, f = g + 1 := ⟨f - 1, by omega⟩
    have ej : j = 1681 := by omega
    subst ej
    exact br_t (nI_le (a := 1681) (Nat.le_refl _) (by omega)) (yw_walk (yr_L I) (hu_Rb c fa fb fc) H (fun hm => yr_0 I H hm) (fun hu' e => K li hu' I e))
  | succ d ih =>
    intro j f li e hf I
    obtain ⟨f, rfl⟩ : ∃ g, f = g + 1 := ⟨f - 1, by omega⟩
    have n41 : ¬ (41 : Int32) = 0 := by decide
    have d1 : nI j / 41 = nI (j / 41) := pk_div (d := 41) (by omega) (by omega) (by omega)
    have d2 : nI j - nI j / 41 * 41 = nI (j % 41) := pk_rem (d := 41) (by omega) (by omega) (by omega)
    have ct := hu_ctle (yr_P c fa fb fc) j
    refine br_f (nI_ge (b := 1681) (by omega) (by omega)) ⟨n41, n41, ?_⟩
    rw [d2, d1]
    refine yb_has hc hB (by omega) (by omega) (fun r => ?_) (fun r => ?_)
    · have p : yr_P c fa fb fc j := r
      have v1 : vp_in (nI (hu_ct (yr_P c fa fb fc) j)) 1681 := vp_in_nI (by omega) (by omega)
      have e1 : (nI (hu_ct (yr_P c fa fb fc) j)).toNatClampNeg = hu_ct (yr_P c fa fb fc) j := nI_clamp (by omega)
      refine br_f (by decide) ⟨n41, n41, v1, fun li' el k ek y ey => ?_⟩
      have e3 : nI (j / 41) + 64 * nI (j % 41) = hu_cd (j / 41) (j % 41) := by
        unfold hu_cd
        rw [← nI_add, ← pk_mul]
        rfl
      rw [e1, e3] at el
      rw [ek, ey, nI_1, nI_1, ← hu_ct1 p]
      refine ih (j + 1) f li' (by omega) (by omega) (fun i hi pi => ?_)
      rw [el]
      rcases Nat.lt_or_ge i j with z | z
      · have := hu_ctl z pi
        rw [pk_un (by omega)]
        exact I i z pi
      · have ei : i = j := by omega
        rw [ei]
        exact pk_us
    · have p : ¬ yr_P c fa fb fc j := r
      refine br_t rfl ?_
      intro y ey
      rw [ey, nI_1, ← hu_ct0 p]
      refine ih (j + 1) f li (by omega) (by omega) (fun i hi pi => ?_)
      rcases Nat.lt_or_ge i j with z | z
      · exact I i z pi
      · have ei : i = j := by omega
        rw [ei] at pi
        exact absurd pi p
/-- what the reference holds of its conditions -/
def yr_I (c m : Nat) (fa fb fc : Nat → Int32) (CX CY : Nat → Nat) (li hu : Nat → Int32) : Prop :=
  yw_H (hu_R c fa fb fc) m CX CY ∧ yr_li c fa fb fc li 1681 ∧ ∀ i, i < m → hu i = hu_cd (CX i) (CY i)
theorem hu_cex (fa fb fc : Nat → Int32) {x : Nat} (hx : x < 41) : ∀ i, ∃ lo hi, hu_col (hu_R i fa fb fc) x lo hi := by
  intro i
  induction i with
  | zero => exact ⟨0, 40, Int.le_refl _, Int.le_refl _, fun y => ⟨fun q => ⟨q.2.2.1, q.2.2.2.1⟩, fun q => ⟨by omega, by omega, q.1, q.2, fun k hk => by omega⟩⟩⟩
  | succ i ih =>
    obtain ⟨lo, hi, c⟩ := ih
    rcases Int.lt_trichotomy (fb i).toInt 0 with z | z | z
    · exact ⟨_, hi, hu_n2 c z rfl⟩
    · rcases hu_lg ((fc i).toInt - (fa i).toInt * x) 0 with w | w
      · exact ⟨lo, -1, hu_n3 c z (Or.inr ⟨w, rfl⟩)⟩
      · exact ⟨lo, hi, hu_n3 c z (Or.inl ⟨w, rfl⟩)⟩
    · exact ⟨lo, _, hu_n1 c z rfl⟩
theorem hu_exn (c : Nat) (fa fb fc : Nat → Int32) : ∃ m CX CY, yw_H (hu_R c fa fb fc) m CX CY := by
  obtain ⟨m, X, Y, h, ok⟩ := hu_ex (hu_Rn c fa fb fc) (fun j hj => hu_cex fa fb fc hj c)
  refine ⟨m, fun i => (X i).toNat, fun i => (Y i).toNat, h, hu_okc ok (fun i hi => ?_)⟩
  have b := hu_Rb c fa fb fc _ _ (ok.1 i hi)
  show (((X i).toNat : Nat) : Int) = X i ∧ (((Y i).toNat : Nat) : Int) = Y i
  omega
theorem yr_refresh {post : SY → Prop} {c : Nat} {l s : Int32} {fa fb fc li hu : Nat → Int32} (hc : c ≤ 8) (hB : hu_B fa fb fc)
    (K : ∀ (m : Nat) (CX CY : Nat → Nat) (li' hu' : Nat → Int32), yr_I c m fa fb fc CX CY li' hu' → post (nI c, nI (hu_ct (yr_P c fa fb fc) 1681), nI m, fa, fb, fc, li', hu')) :
    wpY_refresh post (nI c, l, s, fa, fb, fc, li, hu) := by
  refine ⟨1682, ?_⟩
  obtain ⟨m, CX, CY, H⟩ := hu_exn c fa fb fc
  exact yr_loop hc hB H (fun li' hu' h e => K m CX CY li' hu' ⟨H, h, e⟩) 1681 0 1682 li (by omega) (by omega) (fun i hi => by omega)
end
section
/-! the relation of the two states -/
/-- the component has made its columns and corners ready -/
def hr_Rdy (c m : Nat) (fa fb fc : Nat → Int32) (CX CY : Nat → Nat) (lo hi cx cy : Nat → Int32) : Prop :=
  hu_cols (hu_R c fa fb fc) lo hi ∧ ∀ i, i < m → cx i = nI (CX i) ∧ cy i = nI (CY i)
def hr_X (c m : Nat) (fa fb fc : Nat → Int32) (CX CY : Nat → Nat) (rd cn : Int32) (lo hi cx cy : Nat → Int32) : Prop :=
  rd = 0 ∨ (rd = 1 ∧ cn = nI m ∧ hr_Rdy c m fa fb fc CX CY lo hi cx cy)
noncomputable def hr_ct (c : Nat) (fa fb fc : Nat → Int32) : Nat := hu_ct (yr_P c fa fb fc) 1681
def hr_B (c m : Nat) (fa fb fc : Nat → Int32) (CX CY : Nat → Nat) (li hu : Nat → Int32) : Prop := c ≤ 8 ∧ hu_B fa fb fc ∧ yr_I c m fa fb fc CX CY li hu
def i_Rel (_ : Nat) (u : SX) (v : SY) : Prop :=
  ∃ (c m : Nat) (fa fb fc : Nat → Int32) (CX CY : Nat → Nat) (rd cn : Int32) (lo hi cx cy li hu : Nat → Int32),
    u = (nI c, rd, cn, fa, fb, fc, lo, hi, cx, cy) ∧ v = (nI c, nI (hr_ct c fa fb fc), nI m, fa, fb, fc, li, hu) ∧ hr_B c m fa fb fc CX CY li hu ∧ hr_X c m fa fb fc CX CY rd cn lo hi cx cy
theorem i_up {k : Nat} {u : SX} {v : SY} (h : i_Rel k u v) : i_Rel (k + 4) u v := h
theorem hr_mk {k c m : Nat} {fa fb fc : Nat → Int32} {CX CY : Nat → Nat} {lo hi cx cy li hu : Nat → Int32} (B : hr_B c m fa fb fc CX CY li hu) (D : hr_Rdy c m fa fb fc CX CY lo hi cx cy) :
    i_Rel k (nI c, 1, nI m, fa, fb, fc, lo, hi, cx, cy) (nI c, nI (hr_ct c fa fb fc), nI m, fa, fb, fc, li, hu) :=
  ⟨c, m, fa, fb, fc, CX, CY, 1, nI m, lo, hi, cx, cy, li, hu, rfl, rfl, B, Or.inr ⟨rfl, rfl, D⟩⟩
theorem hr_m0 {k c m : Nat} {fa fb fc : Nat → Int32} {CX CY : Nat → Nat} {cn : Int32} {lo hi cx cy li hu : Nat → Int32} (B : hr_B c m fa fb fc CX CY li hu) :
    i_Rel k (nI c, 0, cn, fa, fb, fc, lo, hi, cx, cy) (nI c, nI (hr_ct c fa fb fc), nI m, fa, fb, fc, li, hu) :=
  ⟨c, m, fa, fb, fc, CX, CY, 0, cn, lo, hi, cx, cy, li, hu, rfl, rfl, B, Or.inl rfl⟩
/-- a corner's place in the square -/
theorem hr_c41 {c m : Nat} {fa fb fc : Nat → Int32} {CX CY : Nat → Nat} {li hu : Nat → Int32} (B : hr_B c m fa fb fc CX CY li hu) {i : Nat} (hi : i < m) : CX i < 41 ∧ CY i < 41 := by
  have b := hu_Rb c fa fb fc _ _ (B.2.2.1.2.1 i hi)
  have b' : 0 ≤ (CX i : Int) ∧ (CX i : Int) ≤ 40 ∧ 0 ≤ (CY i : Int) ∧ (CY i : Int) ≤ 40 := b
  omega
theorem xq_prep {post : SX → Prop} {c m : Nat} {fa fb fc : Nat → Int32} {CX CY : Nat → Nat} {rd cn : Int32} {lo hi cx cy li hu : Nat → Int32} (B : hr_B c m fa fb fc CX CY li hu) (D : hr_X c m fa fb fc CX CY rd cn lo hi cx cy)
    (K : ∀ lo hi cx cy : Nat → Int32, hr_Rdy c m fa fb fc CX CY lo hi cx cy → post (nI c, 1, nI m, fa, fb, fc, lo, hi, cx, cy)) : wpX_prepare post (nI c, rd, cn, fa, fb, fc, lo, hi, cx, cy) := by
  rcases D with h | ⟨h1, h2, h3⟩
  · subst h
    refine xp_prep B.1 B.2.1 (fun lo' hi' hc m' cx' cy' hm ok => ?_)
    obtain ⟨e, g⟩ := hu_un B.2.2.1.2 ok
    subst e
    refine K lo' hi' cx' cy' ⟨hc, fun i hi => ?_⟩
    have b := hr_c41 B hi
    obtain ⟨g1, g2⟩ := g i hi
    have g1' : (cx' i).toInt = (CX i : Int) := g1
    have g2' : (cy' i).toInt = (CY i : Int) := g2
    exact ⟨Int32.toInt_inj.mp (by rw [g1', nI_toInt (by omega)]), Int32.toInt_inj.mp (by rw [g2', nI_toInt (by omega)])⟩
  · subst h1 h2
    exact br_f (by decide) (K lo hi cx cy h3)
end
section
/-! points, column, has, corners, corner -/
/-- the number of points in a column -/
def hq_w (lo hi : Nat → Int32) (j : Nat) : Nat := ((hi j).toInt - (lo j).toInt + 1).toNat
theorem hq_w1 {R : Int → Int → Prop} {lo hi : Nat → Int32} (C : hu_cols R lo hi) {j : Nat} (hj : j < 41) (h : (lo j).toInt ≤ (hi j).toInt) : hi j - lo j + 1 = nI (hq_w lo hi j) ∧ hq_w lo hi j ≤ 41 := by
  have c := C j hj
  have c1 := c.1
  have c2 := c.2.1
  have w : hq_w lo hi j ≤ 41 := by unfold hq_w; omega
  refine ⟨Int32.toInt_inj.mp ?_, w⟩
  rw [hu_add (hu_sub rfl rfl (by omega) (by omega)) hu_t1 (by omega) (by omega), nI_toInt (by omega)]
  unfold hq_w
  omega
theorem hq_w0 {lo hi : Nat → Int32} {j : Nat} (h : (hi j).toInt < (lo j).toInt) : hq_w lo hi j = 0 := by unfold hq_w; omega
theorem hq_col {c : Nat} {fa fb fc lo hi : Nat → Int32} (C : hu_cols (hu_R c fa fb fc) lo hi) {x : Nat} (hx : x < 41) : hu_sm (fun y => hu_b (yr_P c fa fb fc (41 * x + y))) 41 = hq_w lo hi x := by
  have cc := C x hx
  have c1 := cc.1
  have c2 := cc.2.1
  rw [show hq_w lo hi x = ((hi x).toInt - (lo x).toInt + 1).toNat from rfl, ← hu_iv (N := 41) cc.1 (by omega)]
  refine hu_sc 41 (fun y hy => hu_bc ?_)
  have e1 : (41 * x + y) / 41 = x := by omega
  have e2 : (41 * x + y) % 41 = y := by omega
  unfold yr_P
  rw [e1, e2]
  exact cc.2.2 _
theorem hq_ct {c : Nat} {fa fb fc lo hi : Nat → Int32} (C : hu_cols (hu_R c fa fb fc) lo hi) : hr_ct c fa fb fc = hu_sm (hq_w lo hi) 41 := by
  show hu_sm (fun j => hu_b (yr_P c fa fb fc j)) (41 * 41) = _
  rw [hu_sb]
  exact hu_sc 41 (fun x hx => hq_col C hx)
theorem hq_sle {f : Nat → Nat} : ∀ n, (∀ k, k < n → f k ≤ 41) → hu_sm f n ≤ 41 * n
  | 0, _ => Nat.le_refl _
  | n + 1, h => by
    have a := hq_sle (f := f) n (fun k hk => h k (by omega))
    have b := h n (by omega)
    simp only [hu_sm]; omega
theorem xq_pts {post : Int32 → SX → Prop} {c r n : Int32} {R : Int → Int → Prop} {fa fb fc lo hi cx cy : Nat → Int32} (C : hu_cols R lo hi) (K : post (nI (hu_sm (hq_w lo hi) 41)) (c, r, n, fa, fb, fc, lo, hi, cx, cy)) :
    ∀ (d k f : Nat), k + d = 41 → d < f → wX_points_8 post c r n fa fb fc lo hi cx cy f (nI (hu_sm (hq_w lo hi) k)) (nI k) := by
  intro d
  induction d with
  | zero =>
    intro k f e hf
    obtain ⟨f, rfl⟩ : ∃ g, f = g + 1 := ⟨f - 1, by omega⟩
    have ek : k = 41 := by omega
    subst ek
    exact br_t (nI_le (a := 41) (Nat.le_refl _) (by omega)) K
  | succ d ih =>
    intro k f e hf
    obtain ⟨f, rfl⟩ : ∃ g, f = g + 1 := ⟨f - 1, by omega⟩
    have e1 : (nI k).toNatClampNeg = k := nI_clamp (by omega)
    have v1 : vp_in (nI k) 41 := vp_in_nI (by omega) (by omega)
    have N := ih (k + 1) f (by omega) (by omega)
    refine br_f (nI_ge (b := 41) (by omega) (by omega)) (xc_some (by omega) (fun h => ?_) (fun h => ?_))
    · refine br_t rfl ?_
      intro y ey
      rw [ey, nI_1]
      have s : hu_sm (hq_w lo hi) (k + 1) = hu_sm (hq_w lo hi) k := by
        show hu_sm (hq_w lo hi) k + hq_w lo hi k = _
        rw [hq_w0 h]; rfl
      rw [s] at N
      exact N
    · refine br_f (by decide) ⟨v1, v1, fun y ey z ez => ?_⟩
      rw [e1, (hq_w1 C (by omega) h).1, nI_add] at ey
      rw [ey, ez, nI_1]
      exact N
theorem xq_points {post : Int32 → SX → Prop} {c m : Nat} {fa fb fc : Nat → Int32} {CX CY : Nat → Nat} {rd cn : Int32} {lo hi cx cy li hu : Nat → Int32} (B : hr_B c m fa fb fc CX CY li hu) (D : hr_X c m fa fb fc CX CY rd cn lo hi cx cy)
    (K : ∀ lo hi cx cy : Nat → Int32, hr_Rdy c m fa fb fc CX CY lo hi cx cy → post (nI (hr_ct c fa fb fc)) (nI c, 1, nI m, fa, fb, fc, lo, hi, cx, cy)) : wpX_points post (nI c, rd, cn, fa, fb, fc, lo, hi, cx, cy) := by
  refine xq_prep B D (fun lo hi cx cy Q => ⟨42, ?_⟩)
  refine xq_pts Q.1 ?_ 41 0 42 (by omega) (by omega)
  rw [← hq_ct Q.1]
  exact K lo hi cx cy Q
theorem i_vc_points {k : Nat} {u : SX} {v : SY} (I : i_Rel k u v) (hk : k + 4 ≤ 2048) : wpX_points (fun r u' => wpY_points (fun r' => r' = r ∧ i_Rel (k + 4) u' v) v) u := by
  obtain ⟨c, m, fa, fb, fc, CX, CY, rd, cn, lo, hi, cx, cy, li, hu, rfl, rfl, B, D⟩ := I
  exact xq_points B D (fun lo hi cx cy Q => ⟨rfl, hr_mk B Q⟩)
theorem i_vc_corners {k : Nat} {u : SX} {v : SY} (I : i_Rel k u v) (hk : k + 4 ≤ 2048) : wpX_corners (fun r u' => wpY_corners (fun r' => r' = r ∧ i_Rel (k + 4) u' v) v) u := by
  obtain ⟨c, m, fa, fb, fc, CX, CY, rd, cn, lo, hi, cx, cy, li, hu, rfl, rfl, B, D⟩ := I
  exact xq_prep B D (fun lo hi cx cy Q => ⟨rfl, hr_mk B Q⟩)
theorem i_vc_corner {k : Nat} {u : SX} {v : SY} (I : i_Rel k u v) (hk : k + 4 ≤ 2048) (v1 : Int32) : wpX_corner (fun r u' => wpY_corner (fun r' => r' = r ∧ i_Rel (k + 4) u' v) v v1) u v1 := by
  obtain ⟨c, m, fa, fb, fc, CX, CY, rd, cn, lo, hi, cx, cy, li, hu, rfl, rfl, B, D⟩ := I
  have m82 := B.2.2.1.1
  refine xq_prep B D (fun lo hi cx cy Q => ?_)
  have M := hr_mk (k := k + 4) B Q
  rcases pk_ix v1 (n := m) (by omega) with h | h | ⟨j, hj, rfl⟩
  · exact br_t h (br_t h ⟨rfl, M⟩)
  · have h0 : ¬ v1 < 0 := by
      rw [Int32.le_iff_toInt_le, nI_toInt (by omega)] at h
      rw [Int32.lt_iff_toInt_lt, hu_t0]
      omega
    have h1 : ¬ v1 < nI m := by
      rw [Int32.le_iff_toInt_le] at h
      rw [Int32.lt_iff_toInt_lt]
      omega
    exact br_f h0 (br_f h1 (br_f h0 (br_t h ⟨rfl, M⟩)))
  · have e1 : (nI j).toNatClampNeg = j := nI_clamp (by omega)
    have v84 : vp_in (nI j) 84 := vp_in_nI (by omega) (by omega)
    have v256 : vp_in (nI j) 256 := vp_in_nI (by omega) (by omega)
    have h0 : ¬ nI j < 0 := nI_pos (by omega)
    refine br_f h0 (br_t (nI_lt hj (by omega)) ⟨v84, v84, br_f h0 (br_f (nI_ge hj (by omega)) ⟨v256, ?_, M⟩)⟩)
    rw [e1, B.2.2.2.2 j hj, (Q.2 j hj).1, (Q.2 j hj).2]
    unfold hu_cd
    rw [← nI_add, ← pk_mul]
    rfl
theorem i_vc_has {k : Nat} {u : SX} {v : SY} (I : i_Rel k u v) (hk : k + 4 ≤ 2048) (v1 : Int32) (v2 : Int32) : wpX_has (fun r u' => wpY_has (fun r' => r' = r ∧ i_Rel (k + 4) u' v) v v1 v2) u v1 v2 := by
  have I2 := I
  obtain ⟨c, m, fa, fb, fc, CX, CY, rd, cn, lo, hi, cx, cy, li, hu, rfl, rfl, B, D⟩ := I
  have lt : ∀ x : Int32, (41 : Int32) ≤ x → 40 < x := fun x h => by
    rw [Int32.le_iff_toInt_le, show (41 : Int32).toInt = 41 from by decide] at h
    rw [Int32.lt_iff_toInt_lt, hu_t40]; omega
  rcases pk_ix v1 (n := 41) (by omega) with h | h | ⟨x, hx, rfl⟩
  · exact br_t h (br_t h ⟨rfl, I2⟩)
  · have h0 : ¬ v1 < 0 := by
      rw [Int32.le_iff_toInt_le, nI_toInt (by omega)] at h
      rw [Int32.lt_iff_toInt_lt, hu_t0]
      omega
    exact br_f h0 (br_t h (br_f h0 (br_t (lt _ h) ⟨rfl, I2⟩)))
  · have x0 : ¬ nI x < 0 := nI_pos (by omega)
    have x1 : ¬ (41 : Int32) ≤ nI x := nI_ge (b := 41) hx (by omega)
    have x2 : ¬ (40 : Int32) < nI x := nI_nlt (a := 40) (by omega) (by omega)
    rcases pk_ix v2 (n := 41) (by omega) with h | h | ⟨y, hy, rfl⟩
    · exact br_f x0 (br_f x1 (br_t h (br_f x0 (br_f x2 (br_t h ⟨rfl, I2⟩)))))
    · have h0 : ¬ v2 < 0 := by
        rw [Int32.le_iff_toInt_le, nI_toInt (by omega)] at h
        rw [Int32.lt_iff_toInt_lt, hu_t0]
        omega
      have h1 : ¬ v2 < 41 := Int32.not_lt.mpr h
      have h2 : ¬ v2 ≤ 40 := Int32.not_le.mpr (lt _ h)
      exact br_f x0 (br_f x1 (br_f h0 (br_f h1 (br_f x0 (br_f x2 (br_f h0 (br_f h2 ⟨rfl, I2⟩)))))))
    · have y0 : ¬ nI y < 0 := nI_pos (by omega)
      have y1 : nI y < (41 : Int32) := nI_lt (b := 41) hy (by omega)
      refine br_f x0 (br_f x1 (br_f y0 (br_t y1 (xq_prep B D (fun lo hi cx cy Q => ?_)))))
      have M := hr_mk (k := k + 4) B Q
      have e1 : (nI x).toNatClampNeg = x := nI_clamp (by omega)
      have vx : vp_in (nI x) 41 := vp_in_nI hx (by omega)
      have cc := (Q.1 x hx).2.2 (y : Int)
      have ty : (nI y).toInt = (y : Int) := nI_toInt (by omega)
      refine ⟨vx, ?_⟩
      rw [e1]
      refine br_c (fun h => ?_) (fun h => ⟨vx, br_c (fun h2 => ?_) (fun h2 => ?_)⟩)
      · rw [Int32.lt_iff_toInt_lt, ty] at h
        exact yb_has B.1 B.2.1 hx hy (fun r => by have := cc.mp r; omega) (fun _ => ⟨rfl, M⟩)
      · rw [Int32.lt_iff_toInt_lt, ty] at h2
        exact yb_has B.1 B.2.1 hx hy (fun r => by have := cc.mp r; omega) (fun _ => ⟨rfl, M⟩)
      · rw [Int32.lt_iff_toInt_lt, ty] at h h2
        exact yb_has B.1 B.2.1 hx hy (fun _ => ⟨rfl, M⟩) (fun r => absurd (cc.mpr ⟨by omega, by omega⟩) r)
/-! the reference counts along its list -/
theorem yq_coll {post : Int32 → Prop} {N : Nat} {c s p : Int32} {fa fb fc li hu : Nat → Int32} (hN : N ≤ 1681) (K : post (nI (hu_sm (fun k => hu_b (li k &&& 63 = p)) N))) :
    ∀ (d k f : Nat), k + d = N → d < f → wY_column_4 post p c (nI N) s fa fb fc li hu f (nI (hu_sm (fun k => hu_b (li k &&& 63 = p)) k)) (nI k) := by
  intro d
  induction d with
  | zero =>
    intro k f e hf
    obtain ⟨f, rfl⟩ : ∃ g, f = g + 1 := ⟨f - 1, by omega⟩
    have ek : k = N := by omega
    subst ek
    exact br_t (nI_le (Nat.le_refl _) (by omega)) K
  | succ d ih =>
    intro k f e hf
    obtain ⟨f, rfl⟩ : ∃ g, f = g + 1 := ⟨f - 1, by omega⟩
    have e1 : (nI k).toNatClampNeg = k := nI_clamp (by omega)
    have N1 := ih (k + 1) f (by omega) (by omega)
    have s1 : hu_sm (fun k => hu_b (li k &&& 63 = p)) (k + 1) = hu_sm (fun k => hu_b (li k &&& 63 = p)) k + hu_b (li k &&& 63 = p) := rfl
    refine br_f (nI_ge (by omega) (by omega)) ⟨vp_in_nI (by omega) (by omega), ?_⟩
    rw [e1]
    refine br_c (fun h => ?_) (fun h => ?_)
    · rw [s1, hu_b1 h] at N1
      intro y ey z ez
      rw [ey, ez, nI_1, nI_1]
      exact N1
    · rw [s1, hu_b0 h, Nat.add_zero] at N1
      intro y ey
      rw [ey, nI_1]
      exact N1
theorem hq_colsum {c : Nat} {fa fb fc li : Nat → Int32} (h : yr_li c fa fb fc li 1681) (p : Int32) : hu_sm (fun k => hu_b (li k &&& 63 = p)) (hr_ct c fa fb fc) = hu_sm (fun x => hu_sm (fun y => hu_b (yr_P c fa fb fc (41 * x + y))) 41 * hu_b (nI x = p)) 41 := by
  have a := hu_ls (P := yr_P c fa fb fc) (li := li) (cd := fun j => hu_cd (j / 41) (j % 41)) (fun z => hu_b (z &&& 63 = p)) 1681 h
  refine Eq.trans a ?_
  show hu_sm (fun j => hu_b (yr_P c fa fb fc j) * hu_b (hu_cd (j / 41) (j % 41) &&& 63 = p)) (41 * 41) = _
  rw [hu_sb]
  refine hu_sc 41 (fun x hx => ?_)
  have e : ∀ n, n ≤ 41 → hu_sm (fun y => hu_b (yr_P c fa fb fc (41 * x + y)) * hu_b (hu_cd ((41 * x + y) / 41) ((41 * x + y) % 41) &&& 63 = p)) n = hu_sm (fun y => hu_b (yr_P c fa fb fc (41 * x + y))) n * hu_b (nI x = p) := by
    intro n
    induction n with
    | zero => intro _; simp only [hu_sm]; rw [Nat.zero_mul]
    | succ n ih =>
      intro hn
      have e1 : (41 * x + n) / 41 = x := by omega
      have e2 : (41 * x + n) % 41 = n := by omega
      have i1 := ih (by omega)
      simp only [hu_sm]
      rw [i1, e1, e2, hu_cdx hx (by omega), Nat.add_mul]
  exact e 41 (Nat.le_refl _)
theorem hq_pick {f : Nat → Nat} {a : Nat} : ∀ n, a < n → n ≤ 41 → hu_sm (fun x => f x * hu_b (nI x = nI a)) n = f a
  | 0, h, _ => by omega
  | n + 1, h, h41 => by
    simp only [hu_sm]
    rcases Nat.lt_or_ge a n with z | z
    · rw [hq_pick n z (by omega), hu_b0 (by rw [nI_eq (by omega) (by omega)]; omega), Nat.mul_zero, Nat.add_zero]
    · have e : a = n := by omega
      rw [e, hu_b1 rfl, Nat.mul_one, hu_s0 n (fun k hk => by rw [hu_b0 (by rw [nI_eq (by omega) (by omega)]; omega), Nat.mul_zero]), Nat.zero_add]
theorem i_vc_column {k : Nat} {u : SX} {v : SY} (I : i_Rel k u v) (hk : k + 4 ≤ 2048) (v1 : Int32) : wpX_column (fun r u' => wpY_column (fun r' => r' = r ∧ i_Rel (k + 4) u' v) v v1) u v1 := by
  have I2 := I
  obtain ⟨c, m, fa, fb, fc, CX, CY, rd, cn, lo, hi, cx, cy, li, hu, rfl, rfl, B, D⟩ := I
  have ctl : hr_ct c fa fb fc ≤ 1681 := hu_ctle _ _
  have cs := hq_colsum B.2.2.2.1 v1
  have Y : ∀ (post : Int32 → Prop), post (nI (hu_sm (fun k => hu_b (li k &&& 63 = v1)) (hr_ct c fa fb fc))) → wpY_column post (nI c, nI (hr_ct c fa fb fc), nI m, fa, fb, fc, li, hu) v1 := fun post K =>
    ⟨hr_ct c fa fb fc + 1, yq_coll ctl K (hr_ct c fa fb fc) 0 (hr_ct c fa fb fc + 1) (by omega) (by omega)⟩
  have out : (∀ x, x < 41 → ¬ nI x = v1) → wpY_column (fun r' => r' = 0 ∧ i_Rel (k + 4) (nI c, rd, cn, fa, fb, fc, lo, hi, cx, cy) (nI c, nI (hr_ct c fa fb fc), nI m, fa, fb, fc, li, hu)) (nI c, nI (hr_ct c fa fb fc), nI m, fa, fb, fc, li, hu) v1 := by
    intro h
    refine Y _ ⟨?_, I2⟩
    rw [cs, hu_s0 41 (fun x hx => by rw [hu_b0 (h x hx), Nat.mul_zero])]
    rfl
  rcases pk_ix v1 (n := 41) (by omega) with h | h | ⟨x, hx, rfl⟩
  · exact br_t h (out (fun x hx e => by rw [← e] at h; exact nI_pos (by omega) h))
  · have h0 : ¬ v1 < 0 := by
      rw [Int32.le_iff_toInt_le, nI_toInt (by omega)] at h
      rw [Int32.lt_iff_toInt_lt, hu_t0]
      omega
    exact br_f h0 (br_f (Int32.not_lt.mpr h) (out (fun x hx e => by rw [← e] at h; exact nI_ge (b := 41) hx (by omega) h)))
  · refine br_f (nI_pos (by omega)) (br_t (nI_lt (b := 41) hx (by omega)) (xq_prep B D (fun lo hi cx cy Q => ?_)))
    have M := hr_mk (k := k + 4) B Q
    have e1 : (nI x).toNatClampNeg = x := nI_clamp (by omega)
    have vx : vp_in (nI x) 41 := vp_in_nI hx (by omega)
    have cs2 : hu_sm (fun k => hu_b (li k &&& 63 = nI x)) (hr_ct c fa fb fc) = hq_w lo hi x := by
      rw [cs, hq_pick 41 hx (Nat.le_refl _), hq_col Q.1 hx]
    refine xc_some hx (fun h => ?_) (fun h => ?_)
    · refine br_t rfl (Y _ ⟨?_, M⟩)
      rw [cs2, hq_w0 h]
      rfl
    · refine br_f (by decide) ⟨vx, vx, Y _ ⟨?_, M⟩⟩
      rw [cs2, e1]
      exact (hq_w1 Q.1 hx h).1.symm
end
section
/-! twice the area -/
theorem yb_turnE {post : Int32 → Prop} {c l s : Int32} {fa fb fc li hu : Nat → Int32} {px py qx qy rx ry : Nat} (h1 : px < 41) (h2 : py < 41) (h3 : qx < 41) (h4 : qy < 41) (h5 : rx < 41) (h6 : ry < 41)
    (K : post (((nI qx - nI px) * (nI ry - nI py)) - ((nI qy - nI py) * (nI rx - nI px)))) : wpY_turn post (c, l, s, fa, fb, fc, li, hu) (hu_cd px py) (hu_cd qx qy) (hu_cd rx ry) := by
  simp only [wpY_turn, wpY_xOf, wpY_yOf, hu_cdx h1 h2, hu_cdy h1 h2, hu_cdx h3 h4, hu_cdy h3 h4, hu_cdx h5 h6, hu_cdy h5 h6]
  exact K
def ha_s (f : Nat → Int32) : Nat → Int32
  | 0 => 0
  | n + 1 => ha_s f n + f n
theorem ha_sc {f g : Nat → Int32} : ∀ n, (∀ k, k < n → f k = g k) → ha_s f n = ha_s g n
  | 0, _ => rfl
  | n + 1, h => by
    have a := ha_sc (f := f) (g := g) n (fun k hk => h k (by omega))
    have b := h n (by omega)
    simp only [ha_s]
    rw [a, b]
def ha_cr (A B : Nat → Int32) (i j : Nat) : Int32 := A i * B j - A j * B i
def ha_V (A B : Nat → Int32) (k : Nat) : Int32 := ha_s (fun i => ha_cr A B i (i + 1)) k - ha_cr A B 0 k
theorem ha_V1 (A B : Nat → Int32) : ha_V A B 1 = 0 := by
  unfold ha_V
  simp only [ha_s, ha_cr]
  grind
theorem ha_Vs (A B : Nat → Int32) (k : Nat) : ha_V A B k + (((A k - A 0) * (B (k + 1) - B 0)) - ((B k - B 0) * (A (k + 1) - A 0))) = ha_V A B (k + 1) := by
  unfold ha_V
  simp only [ha_s, ha_cr]
  generalize ha_s (fun i => A i * B (i + 1) - A (i + 1) * B i) k = S
  grind
theorem ha_eq (A B : Nat → Int32) {m : Nat} (hm : 2 ≤ m) : ha_s (fun i => ha_cr A B i (hu_nx m i)) m = ha_V A B (m - 1) := by
  obtain ⟨n, rfl⟩ : ∃ n, m = n + 1 := ⟨m - 1, by omega⟩
  have e : n + 1 - 1 = n := by omega
  rw [e]
  have a := ha_sc (f := fun i => ha_cr A B i (hu_nx (n + 1) i)) (g := fun i => ha_cr A B i (i + 1)) n (fun k hk => by
    show ha_cr A B k (hu_nx (n + 1) k) = _
    rw [hu_nx1 (by omega)])
  show ha_s (fun i => ha_cr A B i (hu_nx (n + 1) i)) n + ha_cr A B n (hu_nx (n + 1) n) = _
  rw [a, hu_nx0 (Nat.le_refl _)]
  unfold ha_V
  generalize ha_s (fun i => ha_cr A B i (i + 1)) n = S
  unfold ha_cr
  grind
theorem xa_33 {post : Int32 → SX → Prop} {J : Int32 → Int32 → Prop} {c r n x1 z : Int32} {fa fb fc lo hi cx cy : Nat → Int32} {k j : Nat} (hz : z = nI j) (hk : k < 84) (hj : j < 84) (K : J (x1 + ha_cr cx cy k j) (nI (k + 1))) :
    wX_area2_33 post J x1 (nI k) z c r n fa fb fc lo hi cx cy := by
  subst hz
  have e1 : (nI k).toNatClampNeg = k := nI_clamp (by omega)
  have e2 : (nI j).toNatClampNeg = j := nI_clamp (by omega)
  have v1 : vp_in (nI k) 84 := vp_in_nI hk (by omega)
  have v2 : vp_in (nI j) 84 := vp_in_nI hj (by omega)
  unfold wX_area2_33
  rw [e1, e2]
  refine ⟨v1, v2, v2, v1, fun y ey w ew => ?_⟩
  rw [ey, ew, nI_1]
  exact K
theorem xa_loop {post : Int32 → SX → Prop} {c r : Int32} {fa fb fc lo hi cx cy : Nat → Int32} {m : Nat} (hm : m ≤ 82) (K : post (ha_s (fun i => ha_cr cx cy i (hu_nx m i)) m) (c, r, nI m, fa, fb, fc, lo, hi, cx, cy)) :
    ∀ (d k f : Nat), k + d = m → d < f → wX_area2_8 post c r (nI m) fa fb fc lo hi cx cy f (ha_s (fun i => ha_cr cx cy i (hu_nx m i)) k) (nI k) := by
  intro d
  induction d with
  | zero =>
    intro k f e hf
    obtain ⟨f, rfl⟩ : ∃ g, f = g + 1 := ⟨f - 1, by omega⟩
    have ek : k = m := by omega
    subst ek
    exact br_t (nI_le (Nat.le_refl _) (by omega)) K
  | succ d ih =>
    intro k f e hf
    obtain ⟨f, rfl⟩ : ∃ g, f = g + 1 := ⟨f - 1, by omega⟩
    have N := ih (k + 1) f (by omega) (by omega)
    have s1 : ha_s (fun i => ha_cr cx cy i (hu_nx m i)) (k + 1) = ha_s (fun i => ha_cr cx cy i (hu_nx m i)) k + ha_cr cx cy k (hu_nx m k) := rfl
    rw [s1] at N
    refine br_f (nI_ge (by omega) (by omega)) (pk_le m (k + 1) (fun h => ?_) (fun h => ?_) rfl (nI_1 k))
    · rw [hu_nx0 h] at N
      exact xa_33 (j := 0) rfl (by omega) (by omega) N
    · rw [hu_nx1 h] at N
      exact xa_33 (j := k + 1) (nI_1 k) (by omega) (by omega) N
theorem ya_loop {post : Int32 → Prop} {c m : Nat} {l : Int32} {fa fb fc : Nat → Int32} {CX CY : Nat → Nat} {li hu : Nat → Int32} (B : hr_B c m fa fb fc CX CY li hu) (K : post (ha_V (fun i => nI (CX i)) (fun i => nI (CY i)) (m - 1))) :
    ∀ (d k f : Nat), k + 1 + d = m → d < f → wY_area2_4 post (nI c) l (nI m) fa fb fc li hu f (ha_V (fun i => nI (CX i)) (fun i => nI (CY i)) k) (nI k) := by
  have m82 := B.2.2.1.1
  intro d
  induction d with
  | zero =>
    intro k f e hf
    obtain ⟨f, rfl⟩ : ∃ g, f = g + 1 := ⟨f - 1, by omega⟩
    have ek : k = m - 1 := by omega
    rw [ek]
    exact pk_le m (m - 1 + 1) (fun h => K) (fun h => by omega) rfl (nI_1 _)
  | succ d ih =>
    intro k f e hf
    obtain ⟨f, rfl⟩ : ∃ g, f = g + 1 := ⟨f - 1, by omega⟩
    have e1 : (nI k).toNatClampNeg = k := nI_clamp (by omega)
    have e2 : (nI k + 1).toNatClampNeg = k + 1 := by rw [nI_1]; exact nI_clamp (by omega)
    have b0 := hr_c41 B (i := 0) (by omega)
    have b1 := hr_c41 B (i := k) (by omega)
    have b2 := hr_c41 B (i := k + 1) (by omega)
    refine pk_le m (k + 1) (fun h => by omega) (fun h => ?_) rfl (nI_1 k)
    refine ⟨vp_in_nI (by omega) (by omega), by rw [nI_1]; exact vp_in_nI (by omega) (by omega), ?_⟩
    rw [e1, e2, B.2.2.2.2 0 (by omega), B.2.2.2.2 k (by omega), B.2.2.2.2 (k + 1) (by omega)]
    refine yb_turnE b0.1 b0.2 b1.1 b1.2 b2.1 b2.2 ?_
    intro y ey z ez
    rw [ey, ez, nI_1]
    have N := ih (k + 1) f (by omega) (by omega)
    rw [← ha_Vs] at N
    exact N
theorem i_vc_area2 {k : Nat} {u : SX} {v : SY} (I : i_Rel k u v) (hk : k + 4 ≤ 2048) : wpX_area2 (fun r u' => wpY_area2 (fun r' => r' = r ∧ i_Rel (k + 4) u' v) v) u := by
  obtain ⟨c, m, fa, fb, fc, CX, CY, rd, cn, lo, hi, cx, cy, li, hu, rfl, rfl, B, D⟩ := I
  have m82 := B.2.2.1.1
  refine xq_prep B D (fun lo hi cx cy Q => ⟨m + 1, ?_⟩)
  have M := hr_mk (k := k + 4) B Q
  refine xa_loop m82 ?_ m 0 (m + 1) (by omega) (by omega)
  have cr : ha_s (fun i => ha_cr cx cy i (hu_nx m i)) m = ha_s (fun i => ha_cr (fun i => nI (CX i)) (fun i => nI (CY i)) i (hu_nx m i)) m := by
    refine ha_sc m (fun i hi => ?_)
    have n := hu_nxl (m := m) (i := i) (by omega)
    show ha_cr cx cy i (hu_nx m i) = ha_cr (fun i => nI (CX i)) (fun i => nI (CY i)) i (hu_nx m i)
    unfold ha_cr
    rw [(Q.2 i hi).1, (Q.2 i hi).2, (Q.2 _ n).1, (Q.2 _ n).2]
  rcases Nat.lt_or_ge m 2 with z | z
  · refine ⟨1, pk_le m 2 (fun h => ⟨?_, M⟩) (fun h => by omega)⟩
    rw [cr]
    rcases Nat.eq_zero_or_pos m with w | w
    · rw [w]; rfl
    · have m1 : m = 1 := by omega
      rw [m1]
      show (0 : Int32) = 0 + ha_cr (fun i => nI (CX i)) (fun i => nI (CY i)) 0 (hu_nx 1 0)
      rw [hu_nx0 (Nat.le_refl _)]
      unfold ha_cr
      grind
  · refine ⟨m, ?_⟩
    have L := ya_loop (l := nI (hr_ct c fa fb fc)) (post := fun r' => r' = ha_s (fun i => ha_cr cx cy i (hu_nx m i)) m ∧ i_Rel (k + 4) (nI c, 1, nI m, fa, fb, fc, lo, hi, cx, cy) (nI c, nI (hr_ct c fa fb fc), nI m, fa, fb, fc, li, hu)) B ⟨by rw [cr, ha_eq _ _ z], M⟩ (m - 2) 1 m (by omega) (by omega)
    rw [ha_V1] at L
    exact L
end
section
/-! points on the border -/
def hg_eu : Nat → Nat → Nat → Nat
  | 0, a, _ => a
  | n + 1, a, b => if b = 0 then a else hg_eu n b (a % b)
theorem hg_tab : ∀ a, a < 41 → ∀ b, b < 41 → hg_eu 20 a b = Nat.gcd a b := by decide +kernel
theorem xg_loop {post : Int32 → Prop} : ∀ (n f a b i : Nat), i + n = 20 → n < f → a < 100 → b < 100 → post (nI (hg_eu n a b)) → wX_gcd_25 post f (nI a) (nI b) (nI i) := by
  intro n
  induction n with
  | zero =>
    intro f a b i e hf ha hb K
    obtain ⟨f, rfl⟩ : ∃ g, f = g + 1 := ⟨f - 1, by omega⟩
    have ei : i = 20 := by omega
    subst ei
    exact br_t (nI_le (a := 20) (Nat.le_refl _) (by omega)) K
  | succ n ih =>
    intro f a b i e hf ha hb K
    obtain ⟨f, rfl⟩ : ∃ g, f = g + 1 := ⟨f - 1, by omega⟩
    refine br_f (nI_ge (b := 20) (by omega) (by omega)) ?_
    rcases Nat.eq_zero_or_pos b with z | z
    · subst z
      exact br_t (nI_le (b := 0) (Nat.le_refl _) (by omega)) K
    · refine br_f (nI_nle z (by omega)) ⟨nI_ne0 z (by omega), ?_⟩
      have er : nI a - nI a / nI b * nI b = nI (a % b) := pk_rem (by omega) z (by omega)
      have lt := Nat.mod_lt a z
      intro y ey w ew
      rw [ey, ew, er, nI_1]
      have K2 : hg_eu (n + 1) a b = hg_eu n b (a % b) := if_neg (by omega)
      rw [K2] at K
      exact ih f b (a % b) (i + 1) (by omega) (by omega) hb (by omega) K
theorem xg_abs {p : Int32} (h1 : -40 ≤ p.toInt) (h2 : p.toInt ≤ 40) : (0 ≤ p → p = nI p.toInt.natAbs) ∧ (¬ 0 ≤ p → -p = nI p.toInt.natAbs) := by
  constructor
  · intro h
    rw [Int32.le_iff_toInt_le, hu_t0] at h
    exact Int32.toInt_inj.mp (by rw [nI_toInt (by omega)]; omega)
  · intro h
    rw [Int32.le_iff_toInt_le, hu_t0] at h
    exact Int32.toInt_inj.mp (by rw [nI_toInt (by omega), hu_neg rfl (by omega)]; omega)
theorem xg_10 {post : Int32 → Prop} {q z : Int32} {a : Nat} (ha : a < 41) (hz : z = nI a) (h1 : -40 ≤ q.toInt) (h2 : q.toInt ≤ 40) (K : post (nI (Nat.gcd a q.toInt.natAbs))) : wX_gcd_10 post q z := by
  have b41 : q.toInt.natAbs < 41 := by omega
  have T := hg_tab a ha q.toInt.natAbs b41
  rw [← T] at K
  obtain ⟨g1, g2⟩ := xg_abs h1 h2
  have L : wX_gcd_25 post 21 (nI a) (nI q.toInt.natAbs) (nI 0) := xg_loop 20 21 a q.toInt.natAbs 0 (by omega) (by omega) (by omega) (by omega) K
  rw [← hz] at L
  refine br_c (fun h => ⟨21, ?_⟩) (fun h y ey => ⟨21, ?_⟩)
  · rw [← g1 h] at L
    exact L
  · rw [← g2 h] at L
    rw [ey]
    exact L
theorem xg_gcd {post : Int32 → Prop} {p q : Int32} (h1 : -40 ≤ p.toInt) (h2 : p.toInt ≤ 40) (h3 : -40 ≤ q.toInt) (h4 : q.toInt ≤ 40) (K : post (nI (Int.gcd p.toInt q.toInt))) : wpX_gcd post p q := by
  obtain ⟨g1, g2⟩ := xg_abs h1 h2
  exact br_c (fun h => xg_10 (by omega) (g1 h) h3 h4 K) (fun h => xg_10 (by omega) (g2 h) h3 h4 K)
def hg_g (m : Nat) (CX CY : Nat → Nat) (i : Nat) : Nat := Int.gcd ((CX (hu_nx m i) : Int) - CX i) ((CY (hu_nx m i) : Int) - CY i)
theorem xg_46 {post : Int32 → SX → Prop} {J : Int32 → Int32 → Prop} {c r n z : Int32} {x1 : Nat} {fa fb fc lo hi cx cy : Nat → Int32} {k j ax ay bx bz : Nat} (hz : z = nI j) (hk : k < 84) (hj : j < 84)
    (ea : cx k = nI ax) (eb : cy k = nI ay) (ec : cx j = nI bx) (ed : cy j = nI bz) (h1 : ax < 41) (h2 : ay < 41) (h3 : bx < 41) (h4 : bz < 41)
    (K : J (nI (x1 + Int.gcd ((bx : Int) - ax) ((bz : Int) - ay))) (nI (k + 1))) :
    wX_border_46 post J (nI x1) (nI k) z c r n fa fb fc lo hi cx cy := by
  subst hz
  have e1 : (nI k).toNatClampNeg = k := nI_clamp (by omega)
  have e2 : (nI j).toNatClampNeg = j := nI_clamp (by omega)
  have v1 : vp_in (nI k) 84 := vp_in_nI hk (by omega)
  have v2 : vp_in (nI j) 84 := vp_in_nI hj (by omega)
  have dx : (nI bx - nI ax).toInt = (bx : Int) - ax := hu_sub (nI_toInt (by omega)) (nI_toInt (by omega)) (by omega) (by omega)
  have dy : (nI bz - nI ay).toInt = (bz : Int) - ay := hu_sub (nI_toInt (by omega)) (nI_toInt (by omega)) (by omega) (by omega)
  unfold wX_border_46
  rw [e1, e2, ea, eb, ec, ed]
  refine ⟨v2, v1, v2, v1, xg_gcd (by omega) (by omega) (by omega) (by omega) ?_⟩
  intro y ey w ew
  rw [dx, dy, nI_add] at ey
  rw [ey, ew, nI_1]
  exact K
theorem xb_loop {post : Int32 → SX → Prop} {c m : Nat} {r : Int32} {fa fb fc : Nat → Int32} {CX CY : Nat → Nat} {lo hi cx cy li hu : Nat → Int32} (B : hr_B c m fa fb fc CX CY li hu) (Q : hr_Rdy c m fa fb fc CX CY lo hi cx cy)
    (K : post (nI (hu_sm (hg_g m CX CY) m)) (nI c, r, nI m, fa, fb, fc, lo, hi, cx, cy)) :
    ∀ (d k f : Nat), k + d = m → d < f → wX_border_21 post (nI c) r (nI m) fa fb fc lo hi cx cy f (nI (hu_sm (hg_g m CX CY) k)) (nI k) := by
  have m82 := B.2.2.1.1
  intro d
  induction d with
  | zero =>
    intro k f e hf
    obtain ⟨f, rfl⟩ : ∃ g, f = g + 1 := ⟨f - 1, by omega⟩
    have ek : k = m := by omega
    subst ek
    exact br_t (nI_le (Nat.le_refl _) (by omega)) K
  | succ d ih =>
    intro k f e hf
    obtain ⟨f, rfl⟩ : ∃ g, f = g + 1 := ⟨f - 1, by omega⟩
    have N := ih (k + 1) f (by omega) (by omega)
    have s1 : hu_sm (hg_g m CX CY) (k + 1) = hu_sm (hg_g m CX CY) k + hg_g m CX CY k := rfl
    have hk : k < m := by omega
    have hn := hu_nxl (m := m) (i := k) (by omega)
    have bk := hr_c41 B hk
    have bn := hr_c41 B hn
    rw [s1] at N
    refine br_f (nI_ge (by omega) (by omega)) (pk_le m (k + 1) (fun h => ?_) (fun h => ?_) rfl (nI_1 k))
    · exact xg_46 (j := hu_nx m k) (by rw [hu_nx0 h]; rfl) (by omega) (by omega) (Q.2 k hk).1 (Q.2 k hk).2 (Q.2 _ hn).1 (Q.2 _ hn).2 bk.1 bk.2 bn.1 bn.2 N
    · exact xg_46 (j := hu_nx m k) (by rw [hu_nx1 h]; exact nI_1 k) (by omega) (by omega) (Q.2 k hk).1 (Q.2 k hk).2 (Q.2 _ hn).1 (Q.2 _ hn).2 bk.1 bk.2 bn.1 bn.2 N
/-! the reference asks every point of its list -/
def yo_B (m : Nat) (CX CY : Nat → Nat) (x y : Int) : Prop := ∃ i, i < m ∧ hu_tn (CX i) (CY i) (CX (hu_nx m i)) (CY (hu_nx m i)) x y = 0
theorem yo_loop {post : Int32 → Prop} {c m : Nat} {l : Int32} {fa fb fc : Nat → Int32} {CX CY : Nat → Nat} {li hu : Nat → Int32} (B : hr_B c m fa fb fc CX CY li hu) {x y : Nat} (hx : x < 41) (hy : y < 41)
    (h1 : yo_B m CX CY x y → post 1) (h0 : ¬ yo_B m CX CY x y → post 0) :
    ∀ (d k f : Nat), k + d = m → d < f → (∀ i, i < k → ¬ hu_tn (CX i) (CY i) (CX (hu_nx m i)) (CY (hu_nx m i)) x y = 0) → wY_onBorder_2 post (hu_cd x y) (nI c) l (nI m) fa fb fc li hu f (nI k) := by
  have m82 := B.2.2.1.1
  intro d
  induction d with
  | zero =>
    intro k f e hf I
    obtain ⟨f, rfl⟩ : ∃ g, f = g + 1 := ⟨f - 1, by omega⟩
    have ek : k = m := by omega
    subst ek
    exact br_t (nI_le (Nat.le_refl _) (by omega)) (h0 (fun ⟨i, hi, z⟩ => I i hi z))
  | succ d ih =>
    intro k f e hf I
    obtain ⟨f, rfl⟩ : ∃ g, f = g + 1 := ⟨f - 1, by omega⟩
    have hk : k < m := by omega
    have hn := hu_nxl (m := m) (i := k) (by omega)
    have bk := hr_c41 B hk
    have bn := hr_c41 B hn
    have e1 : (nI k).toNatClampNeg = k := nI_clamp (by omega)
    have e2 : (nI k + 1).toNatClampNeg = k + 1 := by rw [nI_1]; exact nI_clamp (by omega)
    have go : wY_onBorder_37 post (wY_onBorder_2 post (hu_cd x y) (nI c) l (nI m) fa fb fc li hu f) (hu_cd x y) (nI k) (hu_cd (CX (hu_nx m k)) (CY (hu_nx m k))) (nI c) l (nI m) fa fb fc li hu := by
      refine ⟨vp_in_nI (by omega) (by omega), ?_⟩
      rw [e1, B.2.2.2.2 k hk]
      refine yb_turn bk.1 bk.2 bn.1 bn.2 hx hy (fun t et => br_c (fun h => ?_) (fun h => ?_))
      · rw [h, hu_t0] at et
        exact h1 ⟨k, hk, et.symm⟩
      · intro w ew
        rw [ew, nI_1]
        refine ih (k + 1) f (by omega) (by omega) (fun i hi => ?_)
        rcases Nat.lt_or_ge i k with z | z
        · exact I i z
        · have ei : i = k := by omega
          rw [ei, ← et]
          intro z0
          exact h (Int32.toInt_inj.mp (by rw [z0, hu_t0]))
    refine br_f (nI_ge hk (by omega)) (pk_le m (k + 1) (fun h => ?_) (fun h => ?_) rfl (nI_1 k))
    · rw [hu_nx0 h, ← B.2.2.2.2 0 (by omega)] at go
      exact go
    · rw [hu_nx1 h, ← B.2.2.2.2 (k + 1) h] at go
      refine ⟨by rw [nI_1]; exact vp_in_nI (by omega) (by omega), ?_⟩
      rw [e2]
      exact go
theorem yo_on {post : Int32 → Prop} {c m : Nat} {l : Int32} {fa fb fc : Nat → Int32} {CX CY : Nat → Nat} {li hu : Nat → Int32} (B : hr_B c m fa fb fc CX CY li hu) {x y : Nat} (hx : x < 41) (hy : y < 41)
    (h1 : yo_B m CX CY x y → post 1) (h0 : ¬ yo_B m CX CY x y → post 0) : wpY_onBorder post (nI c, l, nI m, fa, fb, fc, li, hu) (hu_cd x y) :=
  ⟨m + 1, yo_loop B hx hy h1 h0 m 0 (m + 1) (by omega) (by omega) (fun i hi => by omega)⟩
/-- a code's point lies on the border -/
noncomputable def yo_g (m : Nat) (CX CY : Nat → Nat) (z : Int32) : Nat := hu_b (∃ x y : Nat, x < 41 ∧ y < 41 ∧ z = hu_cd x y ∧ yo_B m CX CY x y)
theorem yo_ge {m : Nat} {CX CY : Nat → Nat} {x y : Nat} (hx : x < 41) (hy : y < 41) : yo_g m CX CY (hu_cd x y) = hu_b (yo_B m CX CY x y) := by
  refine hu_bc ⟨?_, fun h => ⟨x, y, hx, hy, rfl, h⟩⟩
  rintro ⟨x', y', hx', hy', e, h⟩
  obtain ⟨e1, e2⟩ := (hu_cdi hx hy hx' hy').mp e
  rw [e1, e2]
  exact h
theorem yb_all {post : Int32 → Prop} {N m : Nat} {c : Int32} {fa fb fc li hu : Nat → Int32} (hN : N ≤ 1681) (hm : m < 3) (K : post (nI N)) :
    ∀ (d k f : Nat), k + d = N → d < f → wY_border_4 post c (nI N) (nI m) fa fb fc li hu f (nI k) (nI k) := by
  intro d
  induction d with
  | zero =>
    intro k f e hf
    obtain ⟨f, rfl⟩ : ∃ g, f = g + 1 := ⟨f - 1, by omega⟩
    have ek : k = N := by omega
    subst ek
    exact br_t (nI_le (Nat.le_refl _) (by omega)) K
  | succ d ih =>
    intro k f e hf
    obtain ⟨f, rfl⟩ : ∃ g, f = g + 1 := ⟨f - 1, by omega⟩
    refine br_f (nI_ge (by omega) (by omega)) (br_t (nI_lt (b := 3) hm (by omega)) ?_)
    intro y ey z ez
    rw [ey, ez, nI_1]
    exact ih (k + 1) f (by omega) (by omega)
theorem yb_bord {post : Int32 → Prop} {N c m : Nat} {fa fb fc : Nat → Int32} {CX CY : Nat → Nat} {li hu : Nat → Int32} (B : hr_B c m fa fb fc CX CY li hu) (hL : yn_L (hu_R c fa fb fc) N li) (hm : 3 ≤ m) (K : post (nI (hu_sm (fun k => yo_g m CX CY (li k)) N))) :
    ∀ (d k f : Nat), k + d = N → d < f → wY_border_4 post (nI c) (nI N) (nI m) fa fb fc li hu f (nI (hu_sm (fun k => yo_g m CX CY (li k)) k)) (nI k) := by
  have m82 := B.2.2.1.1
  have hN := hL.1
  intro d
  induction d with
  | zero =>
    intro k f e hf
    obtain ⟨f, rfl⟩ : ∃ g, f = g + 1 := ⟨f - 1, by omega⟩
    have ek : k = N := by omega
    subst ek
    exact br_t (nI_le (Nat.le_refl _) (by omega)) K
  | succ d ih =>
    intro k f e hf
    obtain ⟨f, rfl⟩ : ∃ g, f = g + 1 := ⟨f - 1, by omega⟩
    have e1 : (nI k).toNatClampNeg = k := nI_clamp (by omega)
    obtain ⟨x, y, hx, hy, rq, eq⟩ := hL.2.1 k (by omega)
    have N1 := ih (k + 1) f (by omega) (by omega)
    have s1 : hu_sm (fun k => yo_g m CX CY (li k)) (k + 1) = hu_sm (fun k => yo_g m CX CY (li k)) k + yo_g m CX CY (li k) := rfl
    rw [s1, eq, yo_ge hx hy] at N1
    refine br_f (nI_ge (by omega) (by omega)) (br_f (nI_nlt (b := 3) hm (by omega)) ⟨vp_in_nI (by omega) (by omega), ?_⟩)
    rw [e1, eq]
    refine yo_on B hx hy (fun h => br_f (by decide) ?_) (fun h => br_t rfl ?_)
    · rw [hu_b1 h] at N1
      intro w ew z ez
      rw [ew, ez, nI_1, nI_1]
      exact N1
    · rw [hu_b0 h, Nat.add_zero] at N1
      intro w ew
      rw [ew, nI_1]
      exact N1
theorem i_vc_border {k : Nat} {u : SX} {v : SY} (I : i_Rel k u v) (hk : k + 4 ≤ 2048) : wpX_border (fun r u' => wpY_border (fun r' => r' = r ∧ i_Rel (k + 4) u' v) v) u := by
  obtain ⟨c, m, fa, fb, fc, CX, CY, rd, cn, lo, hi, cx, cy, li, hu, rfl, rfl, B, D⟩ := I
  have m82 := B.2.2.1.1
  have ctl : hr_ct c fa fb fc ≤ 1681 := hu_ctle _ _
  refine xq_prep B D (fun lo hi cx cy Q => ?_)
  refine pk_le 3 m (fun h => ⟨m + 1, ?_⟩) (fun h => ?_)
  · refine xb_loop B Q ?_ m 0 (m + 1) (by omega) (by omega)
    refine ⟨hr_ct c fa fb fc + 1, ?_⟩
    refine yb_bord (N := hr_ct c fa fb fc) B (yr_L B.2.2.2.1) h ⟨?_, hr_mk B Q⟩ (hr_ct c fa fb fc) 0 (hr_ct c fa fb fc + 1) (by omega) (by omega)
    refine congrArg nI ?_
    have a := hu_ls (P := yr_P c fa fb fc) (li := li) (cd := fun j => hu_cd (j / 41) (j % 41)) (yo_g m CX CY) 1681 B.2.2.2.1
    have b := hu_border B.2.2.1.2 h (hu_Rb c fa fb fc) (hu_Rv c fa fb fc)
    refine Eq.trans a (Eq.trans ?_ b)
    refine hu_sc 1681 (fun j hj => ?_)
    show hu_b (yr_P c fa fb fc j) * yo_g m CX CY (hu_cd (j / 41) (j % 41)) = _
    rw [yo_ge (by omega) (by omega)]
    rfl
  · refine xq_points B (Or.inr ⟨rfl, rfl, Q⟩) (fun lo hi cx cy Q => ?_)
    exact ⟨hr_ct c fa fb fc + 1, yb_all ctl h ⟨rfl, hr_mk B Q⟩ (hr_ct c fa fb fc) 0 (hr_ct c fa fb fc + 1) (by omega) (by omega)⟩
end
section
/-! the best corner -/
def hb_bad (p q : Int32) : Prop := p.toInt < -100 ∨ 100 < p.toInt ∨ q.toInt < -100 ∨ 100 < q.toInt
def hb_V (p q : Int32) (x y : Nat) : Int := p.toInt * x + q.toInt * y
theorem hb_v {p q : Int32} (h : ¬ hb_bad p q) {x y : Nat} (hx : x < 41) (hy : y < 41) : (p * nI x + q * nI y).toInt = hb_V p q x y := by
  unfold hb_bad at h
  have m1 := hu_mb (a := p.toInt) (b := (x : Int)) (K := 100) (M := 40) (by omega) (by omega)
  have m2 := hu_mb (a := q.toInt) (b := (y : Int)) (K := 100) (M := 40) (by omega) (by omega)
  exact hu_add (hu_mul rfl (nI_toInt (n := x) (by omega)) (by omega) (by omega)) (hu_mul rfl (nI_toInt (n := y) (by omega)) (by omega) (by omega)) (by omega) (by omega)
/-- the first corner of greatest value -/
def hb_at (p q : Int32) (m : Nat) (CX CY : Nat → Nat) (t : Nat) : Prop :=
  t < m ∧ (∀ j, j < m → hb_V p q (CX j) (CY j) ≤ hb_V p q (CX t) (CY t)) ∧ ∀ j, j < t → hb_V p q (CX j) (CY j) < hb_V p q (CX t) (CY t)
theorem hb_l1 : (-100 : Int32).toInt = -100 := by decide
theorem hb_l2 : (100 : Int32).toInt = 100 := by decide
theorem xb_dir {post : Int32 → Prop} {p q : Int32} (h1 : hb_bad p q → post 1) (h0 : ¬ hb_bad p q → post 0) : wpX_badDirection post p q := by
  unfold hb_bad at h1 h0
  refine br_c (fun a => h1 ?_) (fun a => br_c (fun b => h1 ?_) (fun b => br_c (fun c => h1 ?_) (fun c => br_c (fun d => h0 ?_) (fun d => h1 ?_))))
  · rw [Int32.lt_iff_toInt_lt, hb_l1] at a; omega
  · rw [Int32.lt_iff_toInt_lt, hb_l2] at b; omega
  · rw [Int32.lt_iff_toInt_lt, hb_l1] at c; omega
  · rw [Int32.lt_iff_toInt_lt, hb_l1] at a c
    rw [Int32.lt_iff_toInt_lt, hb_l2] at b
    rw [Int32.le_iff_toInt_le, hb_l2] at d
    omega
  · rw [Int32.le_iff_toInt_le, hb_l2] at d; omega
theorem xb_loopc {post : Int32 → SX → Prop} {c m : Nat} {r p q : Int32} {fa fb fc : Nat → Int32} {CX CY : Nat → Nat} {lo hi cx cy li hu : Nat → Int32} (B : hr_B c m fa fb fc CX CY li hu) (Q : hr_Rdy c m fa fb fc CX CY lo hi cx cy) (hb : ¬ hb_bad p q)
    (K : ∀ t, hb_at p q m CX CY t → post (nI t) (nI c, r, nI m, fa, fb, fc, lo, hi, cx, cy)) :
    ∀ (d k f t : Nat), k + d = m → d < f → t < k → (∀ j, j < k → hb_V p q (CX j) (CY j) ≤ hb_V p q (CX t) (CY t)) → (∀ j, j < t → hb_V p q (CX j) (CY j) < hb_V p q (CX t) (CY t)) →
      wX_bestCorner_29 post p q (nI c) r (nI m) fa fb fc lo hi cx cy f (nI t) (nI k) := by
  have m82 := B.2.2.1.1
  intro d
  induction d with
  | zero =>
    intro k f t e hf ht h1 h2
    obtain ⟨f, rfl⟩ : ∃ g, f = g + 1 := ⟨f - 1, by omega⟩
    have ek : k = m := by omega
    subst ek
    exact br_t (nI_le (Nat.le_refl _) (by omega)) (K t ⟨ht, h1, h2⟩)
  | succ d ih =>
    intro k f t e hf ht h1 h2
    obtain ⟨f, rfl⟩ : ∃ g, f = g + 1 := ⟨f - 1, by omega⟩
    have hk : k < m := by omega
    have htm : t < m := by omega
    have e1 : (nI k).toNatClampNeg = k := nI_clamp (by omega)
    have e2 : (nI t).toNatClampNeg = t := nI_clamp (by omega)
    have v1 : vp_in (nI k) 84 := vp_in_nI (by omega) (by omega)
    have v2 : vp_in (nI t) 84 := vp_in_nI (by omega) (by omega)
    have bk := hr_c41 B hk
    have bt := hr_c41 B htm
    have w1 := hb_v hb bk.1 bk.2
    have w2 := hb_v hb bt.1 bt.2
    refine br_f (nI_ge (by omega) (by omega)) ⟨v1, v1, v2, v2, ?_⟩
    rw [e1, e2, (Q.2 k hk).1, (Q.2 k hk).2, (Q.2 t htm).1, (Q.2 t htm).2]
    refine br_c (fun h => ?_) (fun h => ?_)
    · rw [Int32.le_iff_toInt_le, w1, w2] at h
      intro y ey
      rw [ey, nI_1]
      refine ih (k + 1) f t (by omega) (by omega) (by omega) (fun j hj => ?_) h2
      rcases Nat.lt_or_ge j k with z | z
      · exact h1 j z
      · have ej : j = k := by omega
        rw [ej]; exact h
    · rw [Int32.le_iff_toInt_le, w1, w2] at h
      intro y ey
      rw [ey, nI_1]
      refine ih (k + 1) f k (by omega) (by omega) (by omega) (fun j hj => ?_) (fun j hj => ?_)
      · rcases Nat.lt_or_ge j k with z | z
        · have := h1 j z; omega
        · have ej : j = k := by omega
          rw [ej]; exact Int.le_refl _
      · have := h1 j hj; omega
theorem xq_bc {post : Int32 → SX → Prop} {c m : Nat} {p q rd cn : Int32} {fa fb fc : Nat → Int32} {CX CY : Nat → Nat} {lo hi cx cy li hu : Nat → Int32} (B : hr_B c m fa fb fc CX CY li hu) (D : hr_X c m fa fb fc CX CY rd cn lo hi cx cy)
    (K1 : hb_bad p q → post (-1) (nI c, rd, cn, fa, fb, fc, lo, hi, cx, cy))
    (K2 : ¬ hb_bad p q → m = 0 → ∀ lo hi cx cy : Nat → Int32, hr_Rdy c m fa fb fc CX CY lo hi cx cy → post (-3) (nI c, 1, nI m, fa, fb, fc, lo, hi, cx, cy))
    (K3 : ¬ hb_bad p q → ∀ t, hb_at p q m CX CY t → ∀ lo hi cx cy : Nat → Int32, hr_Rdy c m fa fb fc CX CY lo hi cx cy → post (nI t) (nI c, 1, nI m, fa, fb, fc, lo, hi, cx, cy)) :
    wpX_bestCorner post (nI c, rd, cn, fa, fb, fc, lo, hi, cx, cy) p q := by
  have m82 := B.2.2.1.1
  unfold wpX_bestCorner
  dsimp only
  refine xb_dir (fun h => ?_) (fun h => ?_)
  · exact br_f (by decide) (K1 h)
  refine br_t rfl (xq_prep B D (fun lo hi cx cy Q => ?_))
  rcases Nat.eq_zero_or_pos m with z | z
  · have zm : nI m = 0 := by rw [z]; exact nI_0
    exact br_t zm (K2 h z lo hi cx cy Q)
  · refine br_f (nI_ne0 z (by omega)) ⟨m, ?_⟩
    exact xb_loopc B Q h (fun t ht => K3 h t ht lo hi cx cy Q) (m - 1) 1 m 0 (by omega) (by omega) (by omega) (fun j hj => by
      have ej : j = 0 := by omega
      rw [ej]; exact Int.le_refl _) (fun j hj => by omega)
/-! the reference's side -/
theorem yb_fac {post : Int32 → Prop} {u : SY} {p : Int32} (h1 : -100 ≤ p.toInt → p.toInt ≤ 100 → post 1) (h0 : (p.toInt < -100 ∨ 100 < p.toInt) → post 0) : wpY_isFactor post u p := by
  obtain ⟨a1, a2, a3, a4, a5, a6, a7, a8⟩ := u
  refine br_c (fun a => h0 ?_) (fun a => br_c (fun b => h0 ?_) (fun b => ?_))
  · rw [Int32.lt_iff_toInt_lt, hb_l1] at a; omega
  · rw [Int32.lt_iff_toInt_lt, hb_l2] at b; omega
  · rw [Int32.lt_iff_toInt_lt, hb_l1] at a
    rw [Int32.lt_iff_toInt_lt, hb_l2] at b
    exact h1 (by omega) (by omega)
theorem yb_val {post : Int32 → Prop} {c l s p q : Int32} {fa fb fc li hu : Nat → Int32} (hb : ¬ hb_bad p q) {x y : Nat} (hx : x < 41) (hy : y < 41) (K : ∀ t : Int32, t.toInt = hb_V p q x y → post t) :
    wpY_value post (c, l, s, fa, fb, fc, li, hu) p q (hu_cd x y) := by
  simp only [wpY_value, wpY_xOf, wpY_yOf, hu_cdx hx hy, hu_cdy hx hy]
  exact K _ (hb_v hb hx hy)
def hb_mx (R : Int → Int → Prop) (p q t : Int32) : Prop := (∃ x y : Nat, R x y ∧ t.toInt = hb_V p q x y) ∧ ∀ x y : Nat, R x y → hb_V p q x y ≤ t.toInt
theorem yb_loopb {post : Int32 → Prop} {R : Int → Int → Prop} {N : Nat} {c s p q : Int32} {fa fb fc li hu : Nat → Int32} (hL : yn_L R N li) (hR : hu_box R) (hb : ¬ hb_bad p q) (K : ∀ t, hb_mx R p q t → post t) :
    ∀ (d k f : Nat) (t : Int32), k + d = N → d < f → (∃ x y : Nat, R x y ∧ t.toInt = hb_V p q x y) → (∀ j, j < k → ∀ x y : Nat, x < 41 → y < 41 → li j = hu_cd x y → hb_V p q x y ≤ t.toInt) →
      wY_best_44 post p q c (nI N) s fa fb fc li hu f t (nI k) := by
  have hN := hL.1
  intro d
  induction d with
  | zero =>
    intro k f t e hf hx hm
    obtain ⟨f, rfl⟩ : ∃ g, f = g + 1 := ⟨f - 1, by omega⟩
    have ek : k = N := by omega
    subst ek
    refine br_t (nI_le (Nat.le_refl _) (by omega)) (K t ⟨hx, fun x y r => ?_⟩)
    obtain ⟨j, hj, ej⟩ := hL.2.2 x y r
    have b := hR _ _ r
    exact hm j hj x y (by omega) (by omega) ej
  | succ d ih =>
    intro k f t e hf hx hm
    obtain ⟨f, rfl⟩ : ∃ g, f = g + 1 := ⟨f - 1, by omega⟩
    have e1 : (nI k).toNatClampNeg = k := nI_clamp (by omega)
    obtain ⟨x, y, h41, k41, rq, eq⟩ := hL.2.1 k (by omega)
    refine br_f (nI_ge (by omega) (by omega)) ⟨vp_in_nI (by omega) (by omega), ?_⟩
    rw [e1, eq]
    refine yb_val hb h41 k41 (fun w ew => br_c (fun h => ?_) (fun h => ?_))
    · rw [Int32.le_iff_toInt_le, ew] at h
      intro z ez
      rw [ez, nI_1]
      refine ih (k + 1) f t (by omega) (by omega) hx (fun j hj x' y' hx' hy' ej => ?_)
      rcases Nat.lt_or_ge j k with z | z
      · exact hm j z x' y' hx' hy' ej
      · have ejk : j = k := by omega
        rw [ejk, eq] at ej
        obtain ⟨f1, f2⟩ := (hu_cdi h41 k41 hx' hy').mp ej
        rw [← f1, ← f2]; exact h
    · rw [Int32.le_iff_toInt_le, ew] at h
      intro z ez
      rw [ez, nI_1]
      refine ih (k + 1) f w (by omega) (by omega) ⟨x, y, rq, ew⟩ (fun j hj x' y' hx' hy' ej => ?_)
      rcases Nat.lt_or_ge j k with z | z
      · have := hm j z x' y' hx' hy' ej; omega
      · have ejk : j = k := by omega
        rw [ejk, eq] at ej
        obtain ⟨f1, f2⟩ := (hu_cdi h41 k41 hx' hy').mp ej
        rw [← f1, ← f2, ew]; exact Int.le_refl _
theorem yq_best {post : Int32 → Prop} {c m : Nat} {p q : Int32} {fa fb fc : Nat → Int32} {CX CY : Nat → Nat} {li hu : Nat → Int32} (B : hr_B c m fa fb fc CX CY li hu)
    (K1 : hb_bad p q → post (-1)) (K2 : ¬ hb_bad p q → m = 0 → post (-3)) (K3 : ¬ hb_bad p q → 0 < m → ∀ t, hb_mx (hu_R c fa fb fc) p q t → post t) :
    wpY_best post (nI c, nI (hr_ct c fa fb fc), nI m, fa, fb, fc, li, hu) p q := by
  have hL : yn_L (hu_R c fa fb fc) (hr_ct c fa fb fc) li := yr_L B.2.2.2.1
  have hN := hL.1
  unfold wpY_best
  dsimp only
  refine yb_fac (fun a1 a2 => ?_) (fun a => br_t rfl (K1 (by unfold hb_bad; omega)))
  refine br_f (by decide) ?_
  refine yb_fac (fun b1 b2 => ?_) (fun b => br_t rfl (K1 (by unfold hb_bad; omega)))
  refine br_f (by decide) ?_
  · have hb : ¬ hb_bad p q := by unfold hb_bad; omega
    rcases Nat.eq_zero_or_pos m with z | z
    · have n0 : hr_ct c fa fb fc = 0 := by
        rcases Nat.eq_zero_or_pos (hr_ct c fa fb fc) with w | w
        · exact w
        · obtain ⟨x, y, _, _, r, _⟩ := hL.2.1 0 w
          exact absurd r (B.2.2.1.2.2.1 z _ _)
      have zN : nI (hr_ct c fa fb fc) = 0 := by rw [n0]; exact nI_0
      exact br_t zN (K2 hb z)
    · obtain ⟨j, hj, _⟩ := hL.2.2 _ _ (B.2.2.1.2.1 0 z)
      have b0 := hr_c41 B z
      have e0 := yr_0 B.2.2.2.1 B.2.2.1 z
      refine br_f (nI_ne0 (by omega) (by omega)) ?_
      rw [e0]
      refine yb_val hb b0.1 b0.2 (fun t et => ⟨hr_ct c fa fb fc, ?_⟩)
      refine yb_loopb hL (hu_Rb c fa fb fc) hb (K3 hb z) (hr_ct c fa fb fc - 1) 1 (hr_ct c fa fb fc) t (by omega) (by omega) ⟨CX 0, CY 0, B.2.2.1.2.1 0 z, et⟩ (fun i hi x y hx hy e => ?_)
      have ei : i = 0 := by omega
      rw [ei, e0] at e
      obtain ⟨f1, f2⟩ := (hu_cdi b0.1 b0.2 hx hy).mp e
      rw [← f1, ← f2, et]; exact Int.le_refl _
theorem hb_eq {c m : Nat} {p q t : Int32} {fa fb fc : Nat → Int32} {CX CY : Nat → Nat} {li hu : Nat → Int32} (B : hr_B c m fa fb fc CX CY li hu) (M : hb_mx (hu_R c fa fb fc) p q t) {i : Nat} (A : hb_at p q m CX CY i) : t.toInt = hb_V p q (CX i) (CY i) := by
  obtain ⟨x, y, r, e⟩ := M.1
  have a := M.2 (CX i) (CY i) (B.2.2.1.2.1 i A.1)
  have b := hu_max B.2.2.1.2 (p := p.toInt) (q := q.toInt) A.1 A.2.1 _ _ r
  have b' : hb_V p q x y ≤ hb_V p q (CX i) (CY i) := b
  omega
theorem yb_loopc {post : Int32 → Prop} {c m : Nat} {l p q v : Int32} {fa fb fc : Nat → Int32} {CX CY : Nat → Nat} {li hu : Nat → Int32} (B : hr_B c m fa fb fc CX CY li hu) (hb : ¬ hb_bad p q) {i : Nat} (A : hb_at p q m CX CY i) (ev : v.toInt = hb_V p q (CX i) (CY i)) (K : post (nI i)) :
    ∀ (d k f : Nat), k + d = i → d < f → wY_bestCorner_28 post p q v (nI c) l (nI m) fa fb fc li hu f (nI k) := by
  have m82 := B.2.2.1.1
  have him := A.1
  intro d
  induction d with
  | zero =>
    intro k f e hf
    obtain ⟨f, rfl⟩ : ∃ g, f = g + 1 := ⟨f - 1, by omega⟩
    have ek : k = i := by omega
    subst ek
    have bk := hr_c41 B him
    have e1 : (nI k).toNatClampNeg = k := nI_clamp (by omega)
    refine br_f (nI_ge him (by omega)) ⟨vp_in_nI (by omega) (by omega), ?_⟩
    rw [e1, B.2.2.2.2 k him]
    exact yb_val hb bk.1 bk.2 (fun t et => br_t (Int32.toInt_inj.mp (by rw [et, ev])) K)
  | succ d ih =>
    intro k f e hf
    obtain ⟨f, rfl⟩ : ∃ g, f = g + 1 := ⟨f - 1, by omega⟩
    have hk : k < m := by omega
    have bk := hr_c41 B hk
    have e1 : (nI k).toNatClampNeg = k := nI_clamp (by omega)
    have ls := A.2.2 k (by omega)
    refine br_f (nI_ge hk (by omega)) ⟨vp_in_nI (by omega) (by omega), ?_⟩
    rw [e1, B.2.2.2.2 k hk]
    refine yb_val hb bk.1 bk.2 (fun t et => br_f (fun z => ?_) ?_)
    · rw [z] at et; omega
    · intro w ew
      rw [ew, nI_1]
      exact ih (k + 1) f (by omega) (by omega)
theorem yq_bc {post : Int32 → Prop} {c m : Nat} {p q : Int32} {fa fb fc : Nat → Int32} {CX CY : Nat → Nat} {li hu : Nat → Int32} (B : hr_B c m fa fb fc CX CY li hu)
    (K1 : hb_bad p q → post (-1)) (K2 : ¬ hb_bad p q → m = 0 → post (-3)) (K3 : ¬ hb_bad p q → 0 < m → ∃ i, hb_at p q m CX CY i ∧ post (nI i)) :
    wpY_bestCorner post (nI c, nI (hr_ct c fa fb fc), nI m, fa, fb, fc, li, hu) p q := by
  unfold wpY_bestCorner
  dsimp only
  refine yb_fac (fun a1 a2 => ?_) (fun a => br_t rfl (K1 (by unfold hb_bad; omega)))
  refine br_f (by decide) ?_
  refine yb_fac (fun b1 b2 => ?_) (fun b => br_t rfl (K1 (by unfold hb_bad; omega)))
  refine br_f (by decide) ?_
  · have hb : ¬ hb_bad p q := by unfold hb_bad; omega
    refine yq_best B (fun h => absurd h hb) (fun _ z => ⟨1, ?_⟩) (fun _ z t ht => ?_)
    · refine br_t ?_ (K2 hb z)
      rw [z]
      exact nI_le (b := 0) (Nat.le_refl _) (by omega)
    · obtain ⟨i, A, k⟩ := K3 hb z
      exact ⟨i + 1, yb_loopc B hb A (hb_eq B ht A) k i 0 (i + 1) (by omega) (by omega)⟩
theorem i_vc_bestCorner {k : Nat} {u : SX} {v : SY} (I : i_Rel k u v) (hk : k + 4 ≤ 2048) (v1 : Int32) (v2 : Int32) : wpX_bestCorner (fun r u' => wpY_bestCorner (fun r' => r' = r ∧ i_Rel (k + 4) u' v) v v1 v2) u v1 v2 := by
  have I2 := I
  obtain ⟨c, m, fa, fb, fc, CX, CY, rd, cn, lo, hi, cx, cy, li, hu, rfl, rfl, B, D⟩ := I
  refine xq_bc B D (fun h => ?_) (fun h z lo hi cx cy Q => ?_) (fun h t A lo hi cx cy Q => ?_)
  · exact yq_bc B (fun _ => ⟨rfl, I2⟩) (fun h2 => absurd h h2) (fun h2 => absurd h h2)
  · exact yq_bc B (fun h2 => absurd h2 h) (fun _ _ => ⟨rfl, hr_mk B Q⟩) (fun _ z2 => by omega)
  · have at0 := A.1
    exact yq_bc B (fun h2 => absurd h2 h) (fun _ z => by omega) (fun _ _ => ⟨t, A, rfl, hr_mk B Q⟩)
theorem i_vc_best {k : Nat} {u : SX} {v : SY} (I : i_Rel k u v) (hk : k + 4 ≤ 2048) (v1 : Int32) (v2 : Int32) : wpX_best (fun r u' => wpY_best (fun r' => r' = r ∧ i_Rel (k + 4) u' v) v v1 v2) u v1 v2 := by
  have I2 := I
  obtain ⟨c, m, fa, fb, fc, CX, CY, rd, cn, lo, hi, cx, cy, li, hu, rfl, rfl, B, D⟩ := I
  have m82 := B.2.2.1.1
  unfold wpX_best
  dsimp only
  refine xq_bc B D (fun h => ?_) (fun h z lo hi cx cy Q => ?_) (fun h t A lo hi cx cy Q => ?_)
  · exact br_f (by decide) (yq_best B (fun _ => ⟨rfl, I2⟩) (fun h2 => absurd h h2) (fun h2 => absurd h h2))
  · exact br_f (by decide) (yq_best B (fun h2 => absurd h2 h) (fun _ _ => ⟨rfl, hr_mk B Q⟩) (fun _ z2 => by omega))
  · have at0 := A.1
    have e1 : (nI t).toNatClampNeg = t := nI_clamp (by omega)
    have v84 : vp_in (nI t) 84 := vp_in_nI (by omega) (by omega)
    have bt := hr_c41 B at0
    refine br_t (nI_pos' (by omega)) ⟨v84, v84, ?_⟩
    dsimp only
    rw [e1, (Q.2 t at0).1, (Q.2 t at0).2]
    refine yq_best B (fun h2 => absurd h2 h) (fun _ z => by omega) (fun _ _ w M => ⟨Int32.toInt_inj.mp ?_, hr_mk B Q⟩)
    rw [hb_eq B M A, hb_v h bt.1 bt.2]
end
section
/-! the start, and the calls that change the conditions -/
theorem i_vc0 : wpX_init (fun u => wpY_init (fun v => i_Rel 0 u v)) := by
  have B0 : hu_B (fun _ => 0) (fun _ => 0) (fun _ => 0) := fun k => by
    show -9 ≤ (0 : Int32).toInt ∧ _
    rw [hu_t0]; omega
  refine yr_refresh (c := 0) (l := 0) (by omega) B0 (fun m CX CY li hu Y => ?_)
  exact hr_m0 (c := 0) ⟨by omega, B0, Y⟩
theorem hs_bad {post : Int32 → Prop} {p : Int32} (h1 : (p < (-1000) ∨ ¬ p ≤ 1000) → post 1) (h0 : ¬ p < (-1000) → p ≤ 1000 → post 0) : wpX_badBound post p :=
  br_c (fun a => h1 (Or.inl a)) (fun a => br_c (fun b => h0 a b) (fun b => h1 (Or.inr b)))
theorem hs_l1 : (-1000 : Int32).toInt = -1000 := by decide
theorem hs_l2 : (1000 : Int32).toInt = 1000 := by decide
theorem hs_l3 : (-9 : Int32).toInt = -9 := by decide
theorem hs_l4 : (9 : Int32).toInt = 9 := by decide
theorem hs_B {fa fb fc : Nat → Int32} (B : hu_B fa fb fc) {c : Nat} {v1 v2 v3 : Int32} (h1 : ¬ v1 < (-9)) (h2 : ¬ 9 < v1) (h3 : ¬ v2 < (-9)) (h4 : ¬ 9 < v2) (h5 : ¬ v3 < (-1000)) (h6 : v3 ≤ 1000) : hu_B (upd fa c v1) (upd fb c v2) (upd fc c v3) := by
  rw [Int32.lt_iff_toInt_lt, hs_l3] at h1 h3
  rw [Int32.lt_iff_toInt_lt, hs_l4] at h2 h4
  rw [Int32.lt_iff_toInt_lt, hs_l1] at h5
  rw [Int32.le_iff_toInt_le, hs_l2] at h6
  intro k
  by_cases e : k = c
  · rw [e, pk_us, pk_us, pk_us]; omega
  · rw [pk_un e, pk_un e, pk_un e]; exact B k
theorem hs_Bc {fa fb fc : Nat → Int32} (B : hu_B fa fb fc) {c : Nat} {v3 : Int32} (h5 : ¬ v3 < (-1000)) (h6 : v3 ≤ 1000) : hu_B fa fb (upd fc c v3) := by
  rw [Int32.lt_iff_toInt_lt, hs_l1] at h5
  rw [Int32.le_iff_toInt_le, hs_l2] at h6
  intro k
  have b := B k
  by_cases e : k = c
  · rw [e, pk_us]; rw [e] at b; omega
  · rw [pk_un e]; exact b
theorem i_vc_drop {k : Nat} {u : SX} {v : SY} (I : i_Rel k u v) (hk : k + 4 ≤ 2048) : wpX_drop (fun r u' => wpY_drop (fun r' v' => r' = r ∧ i_Rel (k + 4) u' v') v) u := by
  have I2 := I
  obtain ⟨c, m, fa, fb, fc, CX, CY, rd, cn, lo, hi, cx, cy, li, hu, rfl, rfl, B, D⟩ := I
  have c8 := B.1
  rcases Nat.eq_zero_or_pos c with z | z
  · have zc : nI c = 0 := by rw [z]; exact nI_0
    exact br_t zc (br_t zc ⟨rfl, I2⟩)
  · have nz : ¬ nI c = 0 := nI_ne0 z (by omega)
    have e1 : nI c - 1 = nI (c - 1) := pk_sub (b := 1) z
    refine br_f nz (fun y ey => br_f nz (fun w ew => ?_))
    rw [e1] at ey ew
    rw [ey, ew]
    exact yr_refresh (c := c - 1) (by omega) B.2.1 (fun m CX CY li hu Y => ⟨rfl, hr_m0 ⟨by omega, B.2.1, Y⟩⟩)
theorem i_vc_shift {k : Nat} {u : SX} {v : SY} (I : i_Rel k u v) (hk : k + 4 ≤ 2048) (v1 : Int32) (v2 : Int32) : wpX_shift (fun r u' => wpY_shift (fun r' v' => r' = r ∧ i_Rel (k + 4) u' v') v v1 v2) u v1 v2 := by
  have I2 := I
  obtain ⟨c, m, fa, fb, fc, CX, CY, rd, cn, lo, hi, cx, cy, li, hu, rfl, rfl, B, D⟩ := I
  have c8 := B.1
  rcases pk_ix v1 (n := c) (by omega) with h | h | ⟨j, hj, rfl⟩
  · exact br_t h (br_t h ⟨rfl, I2⟩)
  · have h0 : ¬ v1 < 0 := by
      rw [Int32.le_iff_toInt_le, nI_toInt (by omega)] at h
      rw [Int32.lt_iff_toInt_lt, hu_t0]
      omega
    have h1 : ¬ v1 < nI c := Int32.not_lt.mpr h
    exact br_f h0 (br_f h1 (br_f h0 (br_f h1 ⟨rfl, I2⟩)))
  · have h0 : ¬ nI j < 0 := nI_pos (by omega)
    have h1 : nI j < nI c := nI_lt hj (by omega)
    have e1 : (nI j).toNatClampNeg = j := nI_clamp (by omega)
    have v8 : vp_in (nI j) 8 := vp_in_nI (by omega) (by omega)
    refine br_f h0 (br_t h1 (hs_bad (fun h => br_f (by decide) (br_f h0 (br_t h1 ?_))) (fun h5 h6 => br_t rfl ⟨v8, fun y ey => ⟨v8, fun a ea => br_f h0 (br_t h1 (br_f h5 (br_t h6 ⟨v8, fun z ez => ⟨v8, fun b eb => ?_⟩⟩)))⟩⟩)))
    · rcases h with h | h
      · exact br_t h ⟨rfl, I2⟩
      · exact br_c (fun _ => ⟨rfl, I2⟩) (fun _ => br_f h ⟨rfl, I2⟩)
    · rw [e1] at ey ea ez eb
      rw [ea, eb]
      exact yr_refresh (c := c) c8 (hs_Bc B.2.1 h5 h6) (fun m CX CY li hu Y => ⟨by rw [ey, ez], hr_m0 ⟨c8, hs_Bc B.2.1 h5 h6, Y⟩⟩)
theorem i_vc_condition {k : Nat} {u : SX} {v : SY} (I : i_Rel k u v) (hk : k + 4 ≤ 2048) (v1 : Int32) (v2 : Int32) (v3 : Int32) : wpX_condition (fun r u' => wpY_condition (fun r' v' => r' = r ∧ i_Rel (k + 4) u' v') v v1 v2 v3) u v1 v2 v3 := by
  have I2 := I
  obtain ⟨c, m, fa, fb, fc, CX, CY, rd, cn, lo, hi, cx, cy, li, hu, rfl, rfl, B, D⟩ := I
  have c8 := B.1
  by_cases h1 : v1 < (-9)
  · exact br_t h1 (br_t h1 (br_t rfl ⟨rfl, I2⟩))
  · by_cases h2 : 9 < v1
    · exact br_f h1 (br_t h2 (br_f h1 (br_t h2 (br_t rfl ⟨rfl, I2⟩))))
    · by_cases h3 : v2 < (-9)
      · exact br_f h1 (br_f h2 (br_t h3 (br_f h1 (br_f h2 (br_t h3 (br_t rfl ⟨rfl, I2⟩))))))
      · by_cases h4 : 9 < v2
        · exact br_f h1 (br_f h2 (br_f h3 (br_t h4 (br_f h1 (br_f h2 (br_f h3 (br_t h4 (br_t rfl ⟨rfl, I2⟩))))))))
        · refine br_f h1 (br_f h2 (br_f h3 (br_f h4 ?_)))
          -- the reference's answer where the bound is out of range, or both factors are 0
          have bad : (v3 < (-1000) ∨ ¬ v3 ≤ 1000) ∨ (v1 = 0 ∧ v2 = 0) → wpY_condition (fun r' v' => r' = -1 ∧ i_Rel (k + 4) (nI c, rd, cn, fa, fb, fc, lo, hi, cx, cy) v') (nI c, nI (hr_ct c fa fb fc), nI m, fa, fb, fc, li, hu) v1 v2 v3 := by
            intro h
            refine br_f h1 (br_f h2 (br_f h3 (br_f h4 (br_c (fun _ => br_t rfl ⟨rfl, I2⟩) (fun h5 => br_c (fun _ => br_t rfl ⟨rfl, I2⟩) (fun h6 => ?_))))))
            rcases h with (h | h) | ⟨ha, hb⟩
            · exact absurd h h5
            · exact absurd (Int32.not_lt.mp h6) h
            · exact br_f (by decide) (br_t ha (br_t hb ⟨rfl, I2⟩))
          have good : ¬ (v1 = 0 ∧ v2 = 0) → wX_condition_32 (fun r u' => wpY_condition (fun r' v' => r' = r ∧ i_Rel (k + 4) u' v') (nI c, nI (hr_ct c fa fb fc), nI m, fa, fb, fc, li, hu) v1 v2 v3) v1 v2 v3 (nI c) rd cn fa fb fc lo hi cx cy := by
            intro nz
            refine hs_bad (fun h => br_f (by decide) (bad (Or.inl h))) (fun h5 h6 => br_t rfl ?_)
            -- the reference, its range test passed
            have Y : ∀ post : Int32 → SY → Prop, wY_condition_60 post v1 v2 v3 (nI c) (nI (hr_ct c fa fb fc)) (nI m) fa fb fc li hu → wpY_condition post (nI c, nI (hr_ct c fa fb fc), nI m, fa, fb, fc, li, hu) v1 v2 v3 := by
              intro post K
              refine br_f h1 (br_f h2 (br_f h3 (br_f h4 (br_f h5 (br_f (Int32.not_lt.mpr h6) (br_f (by decide) (br_c (fun ha => br_f (fun hb => nz ⟨ha, hb⟩) K) (fun _ => K))))))))
            have e1 : (nI c).toNatClampNeg = c := nI_clamp (by omega)
            refine pk_lt c 8 (fun h => ?_) (fun h => ?_)
            · have v8 : vp_in (nI c) 8 := vp_in_nI h (by omega)
              have n8 : ¬ nI c = 8 := by
                intro z
                have := (nI_eq (a := c) (b := 8) (by omega) (by omega)).mp z
                omega
              refine ⟨v8, fun a ea => ⟨v8, fun b eb => ⟨v8, fun d ed w ew => Y _ (br_f n8 ⟨v8, fun a' ea' => ⟨v8, fun b' eb' => ⟨v8, fun d' ed' w' ew' => ?_⟩⟩⟩)⟩⟩⟩
              rw [e1] at ea eb ed ea' eb' ed'
              rw [nI_1] at ew ew'
              rw [ea, eb, ed, ea', eb', ed', ew, ew']
              have Bn := hs_B B.2.1 (c := c) h1 h2 h3 h4 h5 h6
              exact yr_refresh (c := c + 1) (by omega) Bn (fun m CX CY li hu Y => ⟨rfl, hr_m0 ⟨by omega, Bn, Y⟩⟩)
            · have e8 : nI c = 8 := by
                have : c = 8 := by omega
                rw [this]; rfl
              exact Y _ (br_t e8 ⟨rfl, I2⟩)
          refine br_c (fun ha => br_c (fun hb => bad (Or.inr ⟨ha, hb⟩)) (fun hb => good (fun z => hb z.2))) (fun ha => good (fun z => ha z.1))
end
