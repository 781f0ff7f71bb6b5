section
theorem pk_us {f : Nat → Int32} {k : Nat} {x : Int32} : upd f k x k = x := if_pos rfl
theorem pk_un {f : Nat → Int32} {k j : Nat} {x : Int32} (h : j ≠ k) : upd f k x j = f j := if_neg h
theorem pk_sub {a b : Nat} (h : b ≤ a) : nI a - nI b = nI (a - b) := by
  obtain ⟨c, rfl⟩ : ∃ c, a = c + b := ⟨a - b, by omega⟩
  rw [← nI_add, Int32.add_sub_cancel, Nat.add_sub_cancel]
theorem pk_m1 (n : Nat) : nI (n + 1) + (-1) = nI n := by
  rw [← nI_1, Int32.add_assoc, show (1 : Int32) + (-1) = 0 from rfl, Int32.add_zero]
theorem pk_mul (a b : Nat) : nI a * nI b = nI (a * b) := (Int32.ofNat_mul a b).symm
theorem pk_div {a d : Nat} (ha : a < 2 ^ 31) (h0 : 0 < d) (hd : d < 2 ^ 31) : nI a / nI d = nI (a / d) := by
  apply Int32.toInt_inj.mp
  rw [lg_idiv_nonneg (by rw [nI_toInt ha]; omega) (by rw [nI_toInt hd]; omega), nI_toInt ha, nI_toInt hd, nI_toInt (Nat.lt_of_le_of_lt (Nat.div_le_self a d) ha)]
  first | rfl | exact (Int.natCast_ediv _ _).symm
theorem pk_rem {a d : Nat} (ha : a < 2 ^ 31) (h0 : 0 < d) (hd : d < 2 ^ 31) : nI a - nI a / nI d * nI d = nI (a % d) := by
  rw [pk_div ha h0 hd, pk_mul, pk_sub (Nat.div_mul_le_self a d)]
  exact congrArg nI (by have := Nat.div_add_mod' a d; omega)
theorem pk_sub_toInt {a b : Nat} (ha : a < 2 ^ 30) (hb : b < 2 ^ 30) : (nI a - nI b).toInt = (a : Int) - b := by
  rw [Int32.toInt_sub, nI_toInt (by omega), nI_toInt (by omega)]
  exact Int.bmod_eq_of_le (by omega) (by omega)
theorem pk_sneg {a b : Nat} (hb : b < 2 ^ 30) (h : a < b) : nI a - nI b < 0 := by
  rw [Int32.lt_iff_toInt_lt, pk_sub_toInt (by omega) hb, show (0 : Int32).toInt = 0 from by decide]
  omega
theorem pk_ix (x : Int32) {n : Nat} (hn : n < 2 ^ 31) : x < 0 ∨ nI n ≤ x ∨ ∃ j : Nat, j < n ∧ x = nI j := by
  by_cases h : x < 0
  · exact Or.inl h
  · obtain ⟨j, hj, rfl⟩ := nI_of h
    by_cases h2 : j < n
    · exact Or.inr (Or.inr ⟨j, h2, rfl⟩)
    · exact Or.inr (Or.inl (nI_le (by omega) hj))
theorem pk_le {x y : Int32} {A B : Prop} (a b : Nat) (f : a ≤ b → A) (g : b < a → B) (hx : x = nI a := by rfl) (hy : y = nI b := by rfl) (ha : a < 2 ^ 31 := by omega) (hb : b < 2 ^ 31 := by omega) : (x ≤ y → A) ∧ (¬ x ≤ y → B) := by
  subst hx hy
  rw [nI_leI ha hb]
  exact ⟨f, fun z => g (by omega)⟩
theorem pk_lt {x y : Int32} {A B : Prop} (a b : Nat) (f : a < b → A) (g : b ≤ a → B) (hx : x = nI a := by rfl) (hy : y = nI b := by rfl) (ha : a < 2 ^ 31 := by omega) (hb : b < 2 ^ 31 := by omega) : (x < y → A) ∧ (¬ x < y → B) := by
  subst hx hy
  rw [nI_ltI ha hb]
  exact ⟨f, fun z => g (by omega)⟩
theorem pk_eq {x y : Int32} {A B : Prop} (a b : Nat) (f : a = b → A) (g : a ≠ b → B) (hx : x = nI a := by rfl) (hy : y = nI b := by rfl) (ha : a < 2 ^ 31 := by omega) (hb : b < 2 ^ 31 := by omega) : (x = y → A) ∧ (¬ x = y → B) := by
  subst hx hy
  rw [nI_eq ha hb]
  exact ⟨f, g⟩
theorem pk_in {x : Int32} (n N : Nat) (h : n < N) (hx : x = nI n := by rfl) (hN : N < 2 ^ 31 := by omega) : vp_in x N := by
  subst hx
  exact vp_in_nI h hN
theorem pk_cl {x : Int32} (n : Nat) (hx : x = nI n := by rfl) (h : n < 2 ^ 31 := by omega) : x.toNatClampNeg = n := by
  subst hx
  exact nI_clamp h
theorem pk_loop {σ : Type} (W : Nat → Nat → σ → Prop) (I : Nat → σ → Prop) (e i0 : Nat) (s : σ) (hi : i0 ≤ e) (h0 : I i0 s) (hx : ∀ n s, I e s → W (n + 1) e s)
    (hs : ∀ n i s, i < e → I i s → (∀ s', I (i + 1) s' → W n (i + 1) s') → W (n + 1) i s) : ∃ n, W n i0 s :=
  ⟨e + 1, loop_i W I e hx hs (e + 1) i0 s hi (by omega) h0⟩
end
section
/-! numbers -/
theorem sm_8r (r l : Nat) : nI r * 8 + nI l = nI (r * 8 + l) := by
  rw [show (8 : Int32) = nI 8 from rfl, pk_mul, nI_add]
theorem sm_r8 (r l : Nat) : 8 * nI r + nI l = nI (8 * r + l) := by
  rw [show (8 : Int32) = nI 8 from rfl, pk_mul, nI_add]
theorem sm_l1 (a : Nat) : 1 + nI a = nI (1 + a) := nI_add 1 a
theorem sm_l9 (a : Nat) : 9 + nI a = nI (9 + a) := nI_add 9 a
theorem sm_l25 (a : Nat) : 25 + nI a = nI (25 + a) := nI_add 25 a
theorem sm_l31 (a : Nat) : 31 + nI a = nI (31 + a) := nI_add 31 a
theorem sm_l47 (a : Nat) : 47 + nI a = nI (47 + a) := nI_add 47 a
theorem sm_r1 (a : Nat) : nI a + 1 = nI (a + 1) := nI_add a 1
theorem sm_r2 (a : Nat) : nI a + 2 = nI (a + 2) := nI_add a 2
theorem sm_r9 (a : Nat) : nI a + 9 = nI (a + 9) := nI_add a 9
theorem sm_r25 (a : Nat) : nI a + 25 = nI (a + 25) := nI_add a 25
theorem sm_s1 {a : Nat} (h : 1 ≤ a) : nI a - 1 = nI (a - 1) := pk_sub (b := 1) h
theorem sm_s2 {a : Nat} (h : 2 ≤ a) : nI a - 2 = nI (a - 2) := pk_sub (b := 2) h
theorem sm_s8 {a : Nat} (h : 8 ≤ a) : nI a - 8 = nI (a - 8) := pk_sub (b := 8) h
theorem sm_s9 {a : Nat} (h : 9 ≤ a) : nI a - 9 = nI (a - 9) := pk_sub (b := 9) h
theorem sm_m8 (a : Nat) : 8 * nI a = nI (8 * a) := pk_mul 8 a
theorem sm_8m (a : Nat) : nI a * 8 = nI (a * 8) := pk_mul a 8
theorem sm_d8 {a : Nat} (h : a < 2 ^ 31) : nI a / 8 = nI (a / 8) := pk_div (d := 8) h (by omega) (by omega)
theorem sm_q8 {a : Nat} (h : a < 2 ^ 31) : nI a - nI a / 8 * 8 = nI (a % 8) := pk_rem (d := 8) h (by omega) (by omega)
theorem sm_80 : ¬ (8 : Int32) = 0 := by decide
theorem sm_ne1 {a : Nat} (h : a < 2 ^ 31) : ¬ nI a = -1 := by
  intro e
  have := nI_pos (n := a) h
  rw [e] at this
  exact this (by decide)
theorem sm_ne3 {a : Nat} (h : a < 2 ^ 31) : ¬ nI a = -3 := by
  intro e
  have := nI_pos (n := a) h
  rw [e] at this
  exact this (by decide)
theorem sm_inj {a b : Nat} (h : nI a = nI b) (ha : a < 2 ^ 31) (hb : b < 2 ^ 31) : a = b := (nI_eq ha hb).mp h
theorem sm_n1lt : (-1 : Int32) < 0 := by decide
theorem sm_n1le : ¬ (0 : Int32) ≤ -1 := by decide
theorem sm_n8 {j : Nat} (h : j < 8) : ¬ (8 : Int32) ≤ nI j := nI_ge (b := 8) h (by decide)
theorem sm_g8 {k : Nat} (h : 8 ≤ k) (hk : k < 2 ^ 31) : (8 : Int32) ≤ nI k := nI_le (a := 8) h hk
theorem sm_g15 {k : Nat} (h : 16 ≤ k) (hk : k < 2 ^ 31) : (15 : Int32) < nI k := nI_lt (a := 15) (by omega) hk
theorem sm_n15 {k : Nat} (h : k < 16) : ¬ (15 : Int32) < nI k := nI_nlt (a := 15) (by omega) (by decide)
theorem sm_g16 {k : Nat} (h : 16 ≤ k) (hk : k < 2 ^ 31) : (16 : Int32) ≤ nI k := nI_le (a := 16) h hk
theorem sm_n16 {k : Nat} (h : k < 16) : ¬ (16 : Int32) ≤ nI k := nI_ge (b := 16) h (by decide)
theorem sm_in8 (x : Int32) : (∃ j : Nat, j < 8 ∧ x = nI j) ∨ (∀ j : Nat, j < 8 → x ≠ nI j) := by
  by_cases h : ∃ j : Nat, j < 8 ∧ x = nI j
  · exact Or.inl h
  · exact Or.inr fun j hj e => h ⟨j, hj, e⟩
theorem sm_t4 (t : Int32) : t < 0 ∨ (∃ j : Nat, j < 8 ∧ t = nI j) ∨ (∃ j : Nat, j < 8 ∧ t = nI (8 + j)) ∨ (∃ k : Nat, 16 ≤ k ∧ k < 2 ^ 31 ∧ t = nI k) := by
  by_cases h : t < 0
  · exact Or.inl h
  · obtain ⟨k, hk, rfl⟩ := nI_of h
    by_cases h8 : k < 8
    · exact Or.inr (Or.inl ⟨k, h8, rfl⟩)
    · by_cases h16 : k < 16
      · exact Or.inr (Or.inr (Or.inl ⟨k - 8, by omega, by rw [show 8 + (k - 8) = k by omega]⟩))
      · exact Or.inr (Or.inr (Or.inr ⟨k, by omega, hk, rfl⟩))
/-! the arrays of faces, by row and label -/
def sm_mx (a : Nat → Int32) (r l : Nat) : Int32 := a (8 * r + l % 8)
theorem sm_mx1 {a : Nat → Int32} {r l : Nat} (h : l < 8) : a (r * 8 + l) = sm_mx a r l := by
  unfold sm_mx; rw [Nat.mod_eq_of_lt h, Nat.mul_comm]
theorem sm_mx2 {a : Nat → Int32} {r l : Nat} (h : l < 8) : a (8 * r + l) = sm_mx a r l := by
  unfold sm_mx; rw [Nat.mod_eq_of_lt h]
theorem sm_mx0 {a : Nat → Int32} {l : Nat} (h : l < 8) : a l = sm_mx a 0 l := by
  unfold sm_mx; rw [Nat.mod_eq_of_lt h, Nat.mul_zero, Nat.zero_add]
theorem sm_mxm (a : Nat → Int32) (r l : Nat) : sm_mx a r (l % 8) = sm_mx a r l := by
  unfold sm_mx; rw [Nat.mod_mod]
theorem sm_mxe {a b : Nat → Int32} {r : Nat} (h : ∀ l, l < 8 → a (8 * r + l) = b (8 * r + l)) : sm_mx a r = sm_mx b r := by
  funext l
  exact h (l % 8) (Nat.mod_lt _ (by decide))
/-! copied rows -/
def sm_cp (a : Nat → Int32) (s t i : Nat) : Nat → Int32 := fun j => if 8 * t ≤ j ∧ j < 8 * t + i then a (8 * s + (j - 8 * t)) else a j
theorem sm_cp0 {a : Nat → Int32} {s t : Nat} : sm_cp a s t 0 = a := by
  funext j
  exact if_neg (by omega)
theorem sm_cps {a : Nat → Int32} {s t i : Nat} (h : s ≠ t) (hi : i < 8) : upd (sm_cp a s t i) (t * 8 + i) (sm_cp a s t i (s * 8 + i)) = sm_cp a s t (i + 1) := by
  funext j
  have e : sm_cp a s t i (s * 8 + i) = a (s * 8 + i) := if_neg (by omega)
  unfold upd
  rw [e]
  unfold sm_cp
  by_cases h1 : j = t * 8 + i
  · rw [if_pos h1, if_pos (by omega), h1]
    exact congrArg a (by omega)
  · rw [if_neg h1]
    by_cases h2 : 8 * t ≤ j ∧ j < 8 * t + i
    · rw [if_pos h2, if_pos (by omega)]
    · rw [if_neg h2, if_neg (by omega)]
theorem sm_cpt {a : Nat → Int32} {s t : Nat} : sm_mx (sm_cp a s t 8) t = sm_mx a s := by
  funext l
  have := Nat.mod_lt l (show 0 < 8 by decide)
  unfold sm_mx sm_cp
  rw [if_pos (by omega)]
  exact congrArg a (by omega)
theorem sm_cpo {a : Nat → Int32} {s t r : Nat} (h : r ≠ t) : sm_mx (sm_cp a s t 8) r = sm_mx a r := by
  funext l
  have := Nat.mod_lt l (show 0 < 8 by decide)
  unfold sm_mx sm_cp
  rw [if_neg (by omega)]
/-! rows mapped in place -/
def sm_mp (a : Nat → Int32) (f : Int32 → Int32) (t i : Nat) : Nat → Int32 := fun j => if 8 * t ≤ j ∧ j < 8 * t + i then f (a j) else a j
theorem sm_mp0 {a : Nat → Int32} {f : Int32 → Int32} {t : Nat} : sm_mp a f t 0 = a := by
  funext j
  exact if_neg (by omega)
theorem sm_mps {a : Nat → Int32} {f : Int32 → Int32} {t i : Nat} (hi : i < 8) : upd (sm_mp a f t i) (t * 8 + i) (f (sm_mp a f t i (t * 8 + i))) = sm_mp a f t (i + 1) := by
  funext j
  have e : sm_mp a f t i (t * 8 + i) = a (t * 8 + i) := if_neg (by omega)
  unfold upd
  rw [e]
  unfold sm_mp
  by_cases h1 : j = t * 8 + i
  · rw [if_pos h1, if_pos (by omega), h1]
  · rw [if_neg h1]
    by_cases h2 : 8 * t ≤ j ∧ j < 8 * t + i
    · rw [if_pos h2, if_pos (by omega)]
    · rw [if_neg h2, if_neg (by omega)]
theorem sm_mpt {a : Nat → Int32} {f : Int32 → Int32} {t : Nat} (l : Nat) : sm_mx (sm_mp a f t 8) t l = f (sm_mx a t l) := by
  have := Nat.mod_lt l (show 0 < 8 by decide)
  unfold sm_mx sm_mp
  rw [if_pos (by omega)]
theorem sm_mpo {a : Nat → Int32} {f : Int32 → Int32} {t r i : Nat} (hi : i ≤ 8) (h : r ≠ t) : sm_mx (sm_mp a f t i) r = sm_mx a r := by
  funext l
  have := Nat.mod_lt l (show 0 < 8 by decide)
  unfold sm_mx sm_mp
  rw [if_neg (by omega)]
/-! rows copied through a map -/
def sm_cm (a : Nat → Int32) (f : Int32 → Int32) (s t i : Nat) : Nat → Int32 := fun j => if 8 * t ≤ j ∧ j < 8 * t + i then f (a (8 * s + (j - 8 * t))) else a j
theorem sm_cm0 {a : Nat → Int32} {f : Int32 → Int32} {s t : Nat} : sm_cm a f s t 0 = a := by
  funext j
  exact if_neg (by omega)
theorem sm_cms {a : Nat → Int32} {f : Int32 → Int32} {s t i : Nat} (h : s ≠ t) (hi : i < 8) : upd (sm_cm a f s t i) (8 * t + i) (f (sm_cm a f s t i (8 * s + i))) = sm_cm a f s t (i + 1) := by
  funext j
  have e : sm_cm a f s t i (8 * s + i) = a (8 * s + i) := if_neg (by omega)
  unfold upd
  rw [e]
  unfold sm_cm
  by_cases h1 : j = 8 * t + i
  · rw [if_pos h1, if_pos (by omega), h1]
    exact congrArg (fun z => f (a z)) (by omega)
  · rw [if_neg h1]
    by_cases h2 : 8 * t ≤ j ∧ j < 8 * t + i
    · rw [if_pos h2, if_pos (by omega)]
    · rw [if_neg h2, if_neg (by omega)]
theorem sm_cmt {a : Nat → Int32} {f : Int32 → Int32} {s t : Nat} (l : Nat) : sm_mx (sm_cm a f s t 8) t l = f (sm_mx a s l) := by
  have := Nat.mod_lt l (show 0 < 8 by decide)
  unfold sm_mx sm_cm
  rw [if_pos (by omega)]
  exact congrArg (fun z => f (a z)) (by omega)
theorem sm_cmo {a : Nat → Int32} {f : Int32 → Int32} {s t r i : Nat} (hi : i ≤ 8) (h : r ≠ t) : sm_mx (sm_cm a f s t i) r = sm_mx a r := by
  funext l
  have := Nat.mod_lt l (show 0 < 8 by decide)
  unfold sm_mx sm_cm
  rw [if_neg (by omega)]
/-! row 0 emptied -/
def sm_zr (a : Nat → Int32) (i : Nat) : Nat → Int32 := fun j => if j < i then 0 else a j
theorem sm_zr0 {a : Nat → Int32} : sm_zr a 0 = a := by
  funext j
  exact if_neg (by omega)
theorem sm_zrs {a : Nat → Int32} {i : Nat} : upd (sm_zr a i) i 0 = sm_zr a (i + 1) := by
  funext j
  unfold upd sm_zr
  by_cases h1 : j = i
  · rw [if_pos h1, if_pos (by omega)]
  · rw [if_neg h1]
    by_cases h2 : j < i
    · rw [if_pos h2, if_pos (by omega)]
    · rw [if_neg h2, if_neg (by omega)]
theorem sm_zrt {a : Nat → Int32} (l : Nat) : sm_mx (sm_zr a 8) 0 l = 0 := by
  have := Nat.mod_lt l (show 0 < 8 by decide)
  unfold sm_mx sm_zr
  rw [if_pos (by omega)]
theorem sm_zro {a : Nat → Int32} {r : Nat} (h : r ≠ 0) : sm_mx (sm_zr a 8) r = sm_mx a r := by
  funext l
  unfold sm_mx sm_zr
  rw [if_neg (by omega)]
/-! a row narrowed -/
def sm_nr (a : Nat → Int32) (s t i : Nat) : Nat → Int32 := fun j => if (8 * t ≤ j ∧ j < 8 * t + i) ∧ a (8 * s + (j - 8 * t)) = 0 then 0 else a j
theorem sm_nr0 {a : Nat → Int32} {s t : Nat} : sm_nr a s t 0 = a := by
  funext j
  exact if_neg (by omega)
theorem sm_nrr {a : Nat → Int32} {s t i : Nat} (h : s ≠ t) (hi : i < 8) : sm_nr a s t i (8 * s + i) = a (8 * s + i) := if_neg (by omega)
theorem sm_nr1 {a : Nat → Int32} {s t i : Nat} (hz : a (8 * s + i) = 0) : upd (sm_nr a s t i) (8 * t + i) 0 = sm_nr a s t (i + 1) := by
  funext j
  unfold upd sm_nr
  by_cases h1 : j = 8 * t + i
  · subst h1
    rw [if_pos rfl, if_pos]
    exact ⟨by omega, by rw [show 8 * t + i - 8 * t = i by omega]; exact hz⟩
  · rw [if_neg h1]
    by_cases h2 : 8 * t ≤ j ∧ j < 8 * t + i
    · by_cases h3 : a (8 * s + (j - 8 * t)) = 0
      · rw [if_pos ⟨h2, h3⟩, if_pos ⟨by omega, h3⟩]
      · rw [if_neg (fun z => h3 z.2), if_neg (fun z => h3 z.2)]
    · rw [if_neg (fun z => h2 z.1), if_neg (fun z => by omega)]
theorem sm_nr2 {a : Nat → Int32} {s t i : Nat} (hz : ¬ a (8 * s + i) = 0) : sm_nr a s t i = sm_nr a s t (i + 1) := by
  funext j
  unfold sm_nr
  by_cases h3 : a (8 * s + (j - 8 * t)) = 0
  · by_cases h2 : 8 * t ≤ j ∧ j < 8 * t + i
    · rw [if_pos ⟨h2, h3⟩, if_pos ⟨by omega, h3⟩]
    · rw [if_neg (fun z => h2 z.1), if_neg]
      intro z
      have : j - 8 * t = i := by omega
      rw [this] at h3
      exact hz h3
  · rw [if_neg (fun z => h3 z.2), if_neg (fun z => h3 z.2)]
theorem sm_nrt {a : Nat → Int32} {s t : Nat} (l : Nat) : sm_mx (sm_nr a s t 8) t l = if sm_mx a s l = 0 then 0 else sm_mx a t l := by
  have := Nat.mod_lt l (show 0 < 8 by decide)
  unfold sm_mx sm_nr
  rw [show 8 * s + (8 * t + l % 8 - 8 * t) = 8 * s + l % 8 by omega]
  by_cases h : a (8 * s + l % 8) = 0
  · rw [if_pos ⟨by omega, h⟩, if_pos h]
  · rw [if_neg (fun z => h z.2), if_neg h]
theorem sm_nro {a : Nat → Int32} {s t r : Nat} (h : r ≠ t) : sm_mx (sm_nr a s t 8) r = sm_mx a r := by
  funext l
  have := Nat.mod_lt l (show 0 < 8 by decide)
  unfold sm_mx sm_nr
  rw [if_neg (by omega)]
/-! a store into row 0 -/
theorem sm_ut {a : Nat → Int32} {L l : Nat} {v : Int32} (hL : L < 8) : sm_mx (upd a L v) 0 l = if l % 8 = L then v else sm_mx a 0 l := by
  unfold sm_mx upd
  rw [Nat.mul_zero, Nat.zero_add]
theorem sm_uo {a : Nat → Int32} {L r : Nat} {v : Int32} (hL : L < 8) (h : r ≠ 0) : sm_mx (upd a L v) r = sm_mx a r := by
  funext l
  unfold sm_mx upd
  rw [if_neg (by omega)]
end
section
/-! the relation: faces -/
def sm_Lr (k d c k' d1 d2 : Nat → Int32) : Prop := ∀ l, k' l = k l ∧ (k l = 0 ∨ (k l = 1 ∧ c l = d l ∧ d1 l = d l ∧ d2 l = -3) ∨ (k l = 2 ∧ d1 l = d l ∧ d2 l = c l))
def sm_LR (kx dx cx ky d1 d2 : Nat → Int32) (r : Nat) : Prop := sm_Lr (sm_mx kx r) (sm_mx dx r) (sm_mx cx r) (sm_mx ky r) (sm_mx d1 r) (sm_mx d2 r)
def sm_Ts (A B : Nat → Prop) (t : Int32) : Prop := (∀ j, j < 8 → t = nI j → A j) ∧ (∀ j, j < 8 → t = nI (8 + j) → B j)
def sm_Tr (A B : Nat → Prop) (k d c : Nat → Int32) : Prop := ∀ l, k l ≠ 0 → sm_Ts A B (d l) ∧ sm_Ts A B (c l)
/-- what X's translate makes of a type -/
def sm_tr (a : Nat → Int32) (n : Nat) (g t : Int32) : Int32 :=
  if t < 0 then t else if 8 ≤ t then (if 15 < t then t else if 0 ≤ g then a (9 * 8 + g.toNatClampNeg * 8 + (t.toNatClampNeg - 8)) else t) else nI (8 * (n + 2) + t.toNatClampNeg)
/-- what Y's subst makes of a type in row g -/
def sm_sb (a fo : Nat → Int32) (g : Nat) (t : Int32) : Int32 :=
  if g < 9 then t else if g < 25 then (if t < 0 then t else if 8 ≤ t then (if 16 ≤ t then t else if fo g < 0 then t else a (8 * (fo g).toNatClampNeg + (t.toNatClampNeg - 8))) else nI (8 * (g - 9 + 2) + t.toNatClampNeg)) else t
/-! signatures -/
def sm_Sig (kx dx cx ky d1 d2 sp po : Nat → Int32) (s : Nat) : Prop :=
  sm_LR kx dx cx ky d1 d2 (1 + s) ∧ po (1 + s) = sp s ∧ (sp s = -1 ∨ ∃ p, p < s ∧ sp s = nI p ∧ sp p = -1) ∧
  sm_Tr (fun j => sm_mx kx (1 + s) j ≠ 0) (fun j => ∃ p, p < s ∧ sp s = nI p ∧ sm_mx kx (1 + p) j ≠ 0) (sm_mx kx (1 + s)) (sm_mx dx (1 + s)) (sm_mx cx (1 + s))
/-! bodies: the static depth, ranges, callees -/
def sm_st (k : Int32) (d : Nat) : Nat := if k = 0 ∨ k = 1 then d + 1 else if k = 5 then d else d - 1
def sm_ok (k : Int32) (d : Nat) : Prop := if k = 0 ∨ k = 1 then d < 4 else if k = 5 then 1 ≤ d else 2 ≤ d
def sm_sd (nk : Nat → Int32) (a : Nat) : Nat → Nat
  | 0 => 0
  | n + 1 => sm_st (nk (a + n)) (sm_sd nk a n)
def sm_Dp (nk : Nat → Int32) (a c : Nat) : Prop := ∀ n, a + n < c → sm_ok (nk (a + n)) (sm_sd nk a n)
def sm_Op (nl nbd : Nat → Int32) (u b l a c : Nat) : Prop := a ≤ c ∧ c ≤ u ∧ ∀ k, k < u → ((nbd k = nI b ∧ nl k = nI l) ↔ (a ≤ k ∧ k < c))
def sm_Ca (k t : Nat → Int32) (P1 : Nat → Prop) (P2 : Nat → Nat → Prop) (lim : Nat) (dr : Nat → Nat) (l a : Nat) (w : Int32) : Prop :=
  ∃ W, W < 2 ^ 31 ∧ w = nI W ∧ (W / 8 = 0 → k (W % 8) = 2 ∧ dr (W % 8) < dr l ∧ ∃ c', t (W % 8) = nI c' ∧ c' ≤ a) ∧ (W / 8 = 1 → P1 (W % 8)) ∧ (2 ≤ W / 8 → W / 8 - 2 < lim ∧ P2 (W / 8 - 2) (W % 8))
def sm_B1 (k f t nk no nl nbd : Nat → Int32) (u b : Nat) (P1 : Nat → Prop) (P2 : Nat → Nat → Prop) (lim : Nat) (dr : Nat → Nat) (Q : Nat → Nat → Nat → Prop) (l a c : Nat) : Prop :=
  f l = nI a ∧ t l = nI c ∧ sm_Op nl nbd u b l a c ∧ sm_Dp nk a c ∧ sm_sd nk a (c - a) = 1 ∧ (∀ i, a ≤ i → i < c → nk i = 5 → sm_Ca k t P1 P2 lim dr l a (no i)) ∧ Q l a c
def sm_Bo (k f t nk no nl nbd : Nat → Int32) (u b : Nat) (P1 : Nat → Prop) (P2 : Nat → Nat → Prop) (lim : Nat) (dr : Nat → Nat) (Q : Nat → Nat → Nat → Prop) : Prop :=
  ∀ l, l < 8 → k l = 2 → ∃ a c, sm_B1 k f t nk no nl nbd u b P1 P2 lim dr Q l a c
/-! costs -/
def sm_S (g : Nat → Nat) (a : Nat) : Nat → Nat
  | 0 => 0
  | n + 1 => sm_S g a n + g (a + n)
def sm_ro (rt : Nat → Int32) (m : Nat) : Nat := (rt m).toNatClampNeg
def sm_ce (rt ag : Nat → Int32) (q W : Nat) : Nat := if W / 8 = 0 then q else if W / 8 = 1 then sm_ro rt (ag q).toNatClampNeg else sm_ro rt (W / 8 - 2)
def sm_nc (nk no rt ag : Nat → Int32) (cost : Nat → Nat) (q i : Nat) : Nat := if nk i = 5 then cost (8 * sm_ce rt ag q (no i).toNatClampNeg + (no i).toNatClampNeg % 8) else 0
def sm_CQ (nk no rt ag : Nat → Int32) (cost : Nat → Nat) (q l a c : Nat) : Prop := cost (8 * q + l) = sm_S (fun i => 1 + sm_nc nk no rt ag cost q i) a (c - a)
def sm_P2 (kx : Nat → Int32) (m j : Nat) : Prop := sm_mx kx (9 + m) j = 2
def sm_PA (kx ag : Nat → Int32) (q j : Nat) : Prop := ∃ a, a < q ∧ ag q = nI a ∧ sm_mx kx (9 + a) j = 2
def sm_cap (n : Nat) : Nat := if n ≤ 240 then n else 241
/-! modules -/
def sm_Root (kx dx cx fx tx d1 d2 bo fo rt ag wk nk no nl nbd : Nat → Int32) (cost rk : Nat → Nat) (uc q b : Nat) : Prop :=
  bo (9 + q) = nI b ∧ ((ag q = -1 ∧ fo (9 + q) = -1) ∨ ∃ a, a < q ∧ ag q = nI a ∧ fo (9 + q) = nI (9 + a)) ∧
  sm_Bo (sm_mx kx (31 + q)) (sm_mx fx (31 + q)) (sm_mx tx (31 + q)) nk no nl nbd uc b (sm_PA kx ag q) (sm_P2 kx) q (fun l => rk (8 * q + l)) (sm_CQ nk no rt ag cost q) ∧
  (∀ l, l < 8 → sm_mx kx (31 + q) l = 2 → (8 * q ≤ rk (8 * q + l) ∧ rk (8 * q + l) < 8 * q + 8) ∧ wk (8 * q + l) = nI (sm_cap (cost (8 * q + l))) ∧ sm_mx dx (31 + q) l = sm_sb d1 fo (9 + q) (sm_mx d1 (31 + b) l) ∧ sm_mx cx (31 + q) l = sm_sb d1 fo (9 + q) (sm_mx d2 (31 + b) l))
def sm_Mod (kx dx cx fx tx ky d1 d2 bo fo rt ag wk nk no nl nbd : Nat → Int32) (cost rk : Nat → Nat) (uc nb q : Nat) : Prop :=
  sm_LR kx dx cx ky d1 d2 (9 + q) ∧ sm_Tr (fun _ => False) (fun _ => False) (sm_mx kx (9 + q)) (sm_mx dx (9 + q)) (sm_mx cx (9 + q)) ∧
  ∃ r, r ≤ q ∧ rt q = nI r ∧ rt r = nI r ∧ (∀ l, sm_mx kx (9 + q) l = 2 → sm_mx kx (31 + r) l = 2) ∧
    (r ≠ q → bo (9 + q) = -1 ∧ ∃ m, m < q ∧ fo (9 + q) = nI (9 + m) ∧ rt m = nI r) ∧
    (r = q → ∃ b, b < nb ∧ sm_Root kx dx cx fx tx d1 d2 bo fo rt ag wk nk no nl nbd cost rk uc q b)
/-! functors -/
def sm_T3 (_ _ _ : Nat) : Prop := True
def sm_T1 (_ : Nat) : Prop := True
def sm_NZ (kx : Nat → Int32) (p j : Nat) : Prop := sm_mx kx (1 + p) j ≠ 0
def sm_O2 (kx : Nat → Int32) (p j : Nat) : Prop := sm_mx kx (1 + p) j = 2
def sm_F1 (kx dx cx fx tx d1 d2 po bo fp ff ft nk no nl nbd : Nat → Int32) (uc sc mc nb f p b a0 c0 : Nat) (dr : Nat → Nat) : Prop :=
  (p < sc ∧ fp f = nI p ∧ po (25 + f) = nI p) ∧ (b < nb ∧ bo (25 + f) = nI b) ∧ (ff f = nI a0 ∧ ft f = nI c0 ∧ a0 ≤ c0 ∧ c0 ≤ uc) ∧
  (∀ k, k < uc → (nbd k = nI b ↔ (a0 ≤ k ∧ k < c0))) ∧ (∀ k, a0 ≤ k → k < c0 → ∃ l, l < 8 ∧ nl k = nI l ∧ sm_mx kx (47 + f) l = 2) ∧
  (∀ l, l < 8 → sm_mx kx (47 + f) l = 2 → dr l < 8) ∧
  sm_Bo (sm_mx kx (47 + f)) (sm_mx fx (47 + f)) (sm_mx tx (47 + f)) nk no nl nbd uc b (sm_O2 kx p) (sm_P2 kx) mc dr sm_T3 ∧
  sm_Tr sm_T1 (sm_NZ kx p) (sm_mx kx (25 + f)) (sm_mx dx (25 + f)) (sm_mx cx (25 + f)) ∧
  (∀ l, sm_mx kx (47 + f) l = 2 → sm_mx d1 (31 + b) l = sm_mx dx (47 + f) l ∧ sm_mx d2 (31 + b) l = sm_mx cx (47 + f) l ∧ sm_Ts sm_T1 (sm_NZ kx p) (sm_mx dx (47 + f) l) ∧ sm_Ts sm_T1 (sm_NZ kx p) (sm_mx cx (47 + f) l))
def sm_Fun (kx dx cx fx tx ky d1 d2 po bo fp ff ft nk no nl nbd : Nat → Int32) (uc sc mc nb f : Nat) : Prop :=
  sm_LR kx dx cx ky d1 d2 (25 + f) ∧ (∀ l, sm_mx kx (25 + f) l = 2 → sm_mx kx (47 + f) l = 2) ∧
  ∃ p b a0 c0 dr, sm_F1 kx dx cx fx tx d1 d2 po bo fp ff ft nk no nl nbd uc sc mc nb f p b a0 c0 dr
/-! all that is closed: the nodes below uc -/
def sm_Num (ML SL FL RM sc fc mc nb : Nat) (md mo : Nat → Int32) : Prop :=
  (2 ≤ ML ∧ ML ≤ 16 ∧ 2 ≤ SL ∧ SL ≤ 8 ∧ 1 ≤ FL ∧ FL ≤ 6 ∧ RM ≤ 192) ∧ (sc ≤ SL ∧ mc ≤ ML ∧ fc ≤ FL ∧ nb ≤ mc + fc) ∧
  (md 0 = nI sc ∧ md 1 = nI mc ∧ md 2 = nI fc) ∧ (mo 0 = nI SL ∧ mo 1 = nI ML ∧ mo 2 = nI FL)
def sm_CL (sc fc mc uc nb : Nat) (cost rk : Nat → Nat) (kx dx cx fx tx sp fp ff ft rt ag wk nk no nl ky d1 d2 po bo fo nbd : Nat → Int32) : Prop :=
  (∀ i, 8 * mc ≤ i → wk i = 0) ∧ (∀ k, k < uc → ∃ b, b < nb ∧ nbd k = nI b) ∧
  (∀ s, s < sc → sm_Sig kx dx cx ky d1 d2 sp po s) ∧
  (∀ q, q < mc → sm_Mod kx dx cx fx tx ky d1 d2 bo fo rt ag wk nk no nl nbd cost rk uc nb q) ∧
  (∀ f, f < fc → sm_Fun kx dx cx fx tx ky d1 d2 po bo fp ff ft nk no nl nbd uc sc mc nb f)
/-! the draft -/
def sm_c1 (x : Int32) : Nat := if x = 0 then 0 else 1
def sm_cnt (k : Nat → Int32) : Nat := sm_c1 (k 0) + sm_c1 (k 1) + sm_c1 (k 2) + sm_c1 (k 3) + sm_c1 (k 4) + sm_c1 (k 5) + sm_c1 (k 6) + sm_c1 (k 7)
def sm_DN (kx : Nat → Int32) (sc : Nat) (dp : Int32) (j : Nat) : Prop := ∃ p, p < sc ∧ dp = nI p ∧ sm_mx kx (1 + p) j ≠ 0
def sm_D2 (kx : Nat → Int32) (sc : Nat) (dp : Int32) (j : Nat) : Prop := ∃ p, p < sc ∧ dp = nI p ∧ sm_mx kx (1 + p) j = 2
def sm_DA (kx : Nat → Int32) (D j : Nat) : Prop := D = 0 ∧ sm_mx kx 0 j ≠ 0
/-- the row that operand W speaks of -/
def sm_rw (dp : Int32) (W : Nat) : Nat := if W / 8 = 0 then 0 else if W / 8 = 1 then 1 + dp.toNatClampNeg else 9 + (W / 8 - 2)
def sm_pl (sc mc : Nat) (dp : Int32) (W : Nat) : Prop := (W / 8 = 1 → ∃ p, p < sc ∧ dp = nI p) ∧ (2 ≤ W / 8 → W / 8 - 2 < mc)
def sm_lf (W : Nat) (t : Int32) : Int32 := if W / 8 = 1 then (if t < 0 then t else if 8 ≤ t then t else 8 + t) else t
def sm_Tn (kx dx cx : Nat → Int32) (sc mc : Nat) (dp pd : Int32) (k w : Int32) (d : Nat) (t t' : Nat → Int32) : Prop :=
  (k = 0 → (∀ j, j < d → t' j = t j) ∧ t' d = pd) ∧ (k = 1 → (∀ j, j < d → t' j = t j) ∧ t' d = -1) ∧
  (k = 5 → (∀ j, j < d - 1 → t' j = t j) ∧ ∃ W, W < 2 ^ 31 ∧ w = nI W ∧ sm_pl sc mc dp W ∧ sm_mx kx (sm_rw dp W) (W % 8) = 2 ∧ t (d - 1) = sm_lf W (sm_mx dx (sm_rw dp W) (W % 8)) ∧ t' (d - 1) = sm_lf W (sm_mx cx (sm_rw dp W) (W % 8))) ∧
  (k ≠ 0 → k ≠ 1 → k ≠ 5 → (∀ j, j < d - 1 → t' j = t j) ∧ t (d - 1) = -1 ∧ t (d - 2) = -1)
def sm_Pe (kx dx cx nk no nl cs : Nat → Int32) (sc mc us ud D : Nat) (dp pl pd pc pf cd : Int32) : Prop :=
  ∃ L, L < 8 ∧ pl = nI L ∧ sm_mx kx 0 L = 0 ∧ pf = nI ud ∧ (∀ k, ud ≤ k → k < us → nl k = nI L) ∧
    sm_Ts (sm_DA kx D) (sm_DN kx sc dp) pd ∧ sm_Ts (sm_DA kx D) (sm_DN kx sc dp) pc ∧ cd = nI (sm_sd nk ud (us - ud)) ∧
    ∃ T : Nat → Nat → Int32, (∀ j, j < sm_sd nk ud (us - ud) → T (us - ud) j = cs j) ∧
      ∀ n, ud + n < us → sm_ok (nk (ud + n)) (sm_sd nk ud n) ∧ sm_Tn kx dx cx sc mc dp pd (nk (ud + n)) (no (ud + n)) (sm_sd nk ud n) (T n) (T (n + 1))
def sm_DB (kx dx cx fx tx nk no nl nbd cs : Nat → Int32) (sc mc uc us nb D : Nat) (dp pl pd pc pf cd : Int32) : Prop :=
  ∃ dr ud, uc ≤ ud ∧ ud ≤ us ∧ (∀ l, l < 8 → sm_mx kx 0 l = 2 → dr l < sm_cnt (sm_mx kx 0)) ∧
    sm_Bo (sm_mx kx 0) (sm_mx fx 0) (sm_mx tx 0) nk no nl nbd ud nb (sm_D2 kx sc dp) (sm_P2 kx) mc dr sm_T3 ∧
    (∀ k, uc ≤ k → k < ud → ∃ l, l < 8 ∧ nl k = nI l ∧ sm_mx kx 0 l = 2) ∧
    ((pl = -1 ∧ cd = 0 ∧ ud = us) ∨ sm_Pe kx dx cx nk no nl cs sc mc us ud D dp pl pd pc pf cd)
def sm_D1 (kx dx cx fx tx sp nk no nl ky d1 d2 po nbd cs : Nat → Int32) (sc mc uc us nb D : Nat) (dk dp df pl pd pc pf cd : Int32) : Prop :=
  (D ≤ 2 ∧ dk = nI D ∧ df = nI uc ∧ po 0 = dp) ∧ (dp = -1 ∨ ∃ p, p < sc ∧ dp = nI p ∧ sp p = -1) ∧ (D = 1 → dp = -1) ∧ (D = 2 → dp ≠ -1) ∧
  sm_LR kx dx cx ky d1 d2 0 ∧ sm_Tr (sm_DA kx D) (sm_DN kx sc dp) (sm_mx kx 0) (sm_mx dx 0) (sm_mx cx 0) ∧
  (D = 0 → us = uc ∧ pl = -1 ∧ cd = 0) ∧ (D ≠ 0 → sm_DB kx dx cx fx tx nk no nl nbd cs sc mc uc us nb D dp pl pd pc pf cd)
def sm_DR (kx dx cx fx tx sp nk no nl ky d1 d2 po nbd cs : Nat → Int32) (sc mc uc us nb RM : Nat) (dk dp df pl pd pc pf cd : Int32) : Prop :=
  (uc ≤ us ∧ us ≤ RM) ∧ (∀ k, uc ≤ k → k < us → nbd k = nI nb) ∧
  ((dk = -1 ∧ dp = -1 ∧ pl = -1 ∧ cd = 0 ∧ uc = us) ∨ ∃ D, sm_D1 kx dx cx fx tx sp nk no nl ky d1 d2 po nbd cs sc mc uc us nb D dk dp df pl pd pc pf cd)
end
section
/-! what translate and subst give -/
theorem sm_tr_neg {a : Nat → Int32} {n : Nat} {g t : Int32} (h : t < 0) : sm_tr a n g t = t := if_pos h
theorem sm_tr_own {a : Nat → Int32} {n j : Nat} {g : Int32} (h : j < 8) : sm_tr a n g (nI j) = nI (8 * (n + 2) + j) := by
  unfold sm_tr
  rw [if_neg (nI_pos (by omega)), if_neg (sm_n8 h), nI_clamp (by omega)]
theorem sm_tr_big {a : Nat → Int32} {n k : Nat} {g : Int32} (h : 16 ≤ k) (hk : k < 2 ^ 31) : sm_tr a n g (nI k) = nI k := by
  unfold sm_tr
  rw [if_neg (nI_pos hk), if_pos (sm_g8 (by omega) hk), if_pos (sm_g15 (by omega) hk)]
theorem sm_tr_no {a : Nat → Int32} {n j : Nat} (h : j < 8) : sm_tr a n (-1) (nI (8 + j)) = nI (8 + j) := by
  unfold sm_tr
  rw [if_neg (nI_pos (by omega)), if_pos (sm_g8 (by omega) (by omega)), if_neg (sm_n15 (by omega)), if_neg sm_n1le]
theorem sm_tr_par {a : Nat → Int32} {n j m : Nat} (h : j < 8) (hm : m < 2 ^ 31) : sm_tr a n (nI m) (nI (8 + j)) = sm_mx a (9 + m) j := by
  unfold sm_tr
  rw [if_neg (nI_pos (by omega)), if_pos (sm_g8 (by omega) (by omega)), if_neg (sm_n15 (by omega)), if_pos (nI_pos' hm), nI_clamp hm, nI_clamp (by omega), ← sm_mx2 h]
  exact congrArg a (by omega)
theorem sm_tr_congr {a b : Nat → Int32} {n : Nat} {g : Int32} (hg : g = -1 ∨ ∃ m, m < 16 ∧ g = nI m ∧ sm_mx a (9 + m) = sm_mx b (9 + m)) (t : Int32) : sm_tr a n g t = sm_tr b n g t := by
  rcases sm_t4 t with h | ⟨j, hj, rfl⟩ | ⟨j, hj, rfl⟩ | ⟨k, h16, hk, rfl⟩
  · rw [sm_tr_neg h, sm_tr_neg h]
  · rw [sm_tr_own hj, sm_tr_own hj]
  · rcases hg with rfl | ⟨m, hm, rfl, e⟩
    · rw [sm_tr_no hj, sm_tr_no hj]
    · rw [sm_tr_par hj (by omega), sm_tr_par hj (by omega), e]
  · rw [sm_tr_big h16 hk, sm_tr_big h16 hk]
section sm_X
variable {xa xb xml xsl xfl xrm xsc xfc xmc xus dk dp df pl pd pc pf cd xfr xht : Int32} {kx dx cx fx tx sp fp ff ft rt ag wk nk no nl cs cn cb fM fA fI fB fP fF vx bx : Nat → Int32}
theorem sm_xex {post : Int32 → Prop} {x : Int32} {c : Nat} (hc : c < 2 ^ 31) (h0 : (∀ j, j < c → x ≠ nI j) → post 0) (h1 : ∀ j, j < c → x = nI j → post 1) : wpX_exists post (xa, xb, xml, xsl, xfl, xrm, xsc, xfc, xmc, xus, dk, dp, df, pl, pd, pc, pf, cd, xfr, xht, kx, dx, cx, fx, tx, sp, fp, ff, ft, rt, ag, wk, nk, no, nl, cs, cn, cb, fM, fA, fI, fB, fP, fF, vx, bx) x (nI c) := by
  by_cases h : x < 0
  · exact br_t h (h0 fun j hj e => by subst e; exact nI_pos (by omega) h)
  · obtain ⟨j, hj, rfl⟩ := nI_of h
    by_cases hjc : j < c
    · exact br_f h (br_f (nI_ge hjc hc) (h1 j hjc rfl))
    · exact br_f h (br_t (nI_le (by omega) hj) (h0 fun i hi e => hjc (by rw [sm_inj e hj (by omega)]; exact hi)))
theorem sm_xin {post : Int32 → Prop} {x : Int32} (h0 : (∀ j, j < 8 → x ≠ nI j) → post 0) (h1 : ∀ j, j < 8 → x = nI j → post 1) : wpX_inEight post (xa, xb, xml, xsl, xfl, xrm, xsc, xfc, xmc, xus, dk, dp, df, pl, pd, pc, pf, cd, xfr, xht, kx, dx, cx, fx, tx, sp, fp, ff, ft, rt, ag, wk, nk, no, nl, cs, cn, cb, fM, fA, fI, fB, fP, fF, vx, bx) x := by
  by_cases h : x < 0
  · exact br_t h (h0 fun j hj e => by subst e; exact nI_pos (by omega) h)
  · obtain ⟨j, hj, rfl⟩ := nI_of h
    by_cases hjc : j < 8
    · exact br_f h (br_f (sm_n8 hjc) (h1 j hjc rfl))
    · exact br_f h (br_t (sm_g8 (by omega) hj) (h0 fun i hi e => hjc (by rw [sm_inj e hj (by omega)]; exact hi)))
theorem sm_xind {post : Int32 → Prop} {x : Int32} {sc : Nat} (hc : sc ≤ 8) (h0 : (∀ j, j < sc → x = nI j → ¬ sp j = -1) → post 0) (h1 : ∀ j, j < sc → x = nI j → sp j = -1 → post 1) : wpX_independent post (xa, xb, xml, xsl, xfl, xrm, nI sc, xfc, xmc, xus, dk, dp, df, pl, pd, pc, pf, cd, xfr, xht, kx, dx, cx, fx, tx, sp, fp, ff, ft, rt, ag, wk, nk, no, nl, cs, cn, cb, fM, fA, fI, fB, fP, fF, vx, bx) x := by
  unfold wpX_independent
  refine sm_xex (by omega) (fun hn => br_t rfl (h0 fun j hj e => absurd e (hn j hj))) (fun j hj e => br_f (by decide) ?_)
  subst e
  refine ⟨vp_in_nI (by omega) (by omega), ?_⟩
  rw [nI_clamp (by omega)]
  refine br_c (fun e => h1 j hj rfl e) (fun e => h0 fun i hi e2 => ?_)
  rw [← sm_inj e2 (by omega) (by omega)]
  exact e
theorem sm_xseal {post : Int32 → Prop} {x : Int32} {sc : Nat} (hc : sc ≤ 8) (h0 : (∀ j, j < sc → x = nI j → ¬ sp j = -1 ∧ ¬ sp j = dp) → post 0) (h1 : ∀ j, j < sc → x = nI j → (sp j = -1 ∨ sp j = dp) → post 1) : wpX_sealFits post (xa, xb, xml, xsl, xfl, xrm, nI sc, xfc, xmc, xus, dk, dp, df, pl, pd, pc, pf, cd, xfr, xht, kx, dx, cx, fx, tx, sp, fp, ff, ft, rt, ag, wk, nk, no, nl, cs, cn, cb, fM, fA, fI, fB, fP, fF, vx, bx) x := by
  unfold wpX_sealFits
  refine sm_xex (by omega) (fun hn => br_t rfl (h0 fun j hj e => absurd e (hn j hj))) (fun j hj e => br_f (by decide) ?_)
  subst e
  have hi : vp_in (nI j) 8 := vp_in_nI (by omega) (by omega)
  refine ⟨hi, ?_⟩
  rw [nI_clamp (by omega)]
  refine br_c (fun e => h1 j hj rfl (Or.inl e)) (fun e => ⟨hi, br_c (fun e' => h1 j hj rfl (Or.inr e')) (fun e' => h0 fun i hi e2 => ?_)⟩)
  rw [← sm_inj e2 (by omega) (by omega)]
  exact ⟨e, e'⟩
theorem sm_xcopy {post : SX → Prop} {s t : Nat} (hs : s < 53) (ht : t < 53) (hn : s ≠ t) (h : post (xa, xb, xml, xsl, xfl, xrm, xsc, xfc, xmc, xus, dk, dp, df, pl, pd, pc, pf, cd, xfr, xht, sm_cp kx s t 8, sm_cp dx s t 8, sm_cp cx s t 8, sm_cp fx s t 8, sm_cp tx s t 8, sp, fp, ff, ft, rt, ag, wk, nk, no, nl, cs, cn, cb, fM, fA, fI, fB, fP, fF, vx, bx)) : wpX_copyFace post (xa, xb, xml, xsl, xfl, xrm, xsc, xfc, xmc, xus, dk, dp, df, pl, pd, pc, pf, cd, xfr, xht, kx, dx, cx, fx, tx, sp, fp, ff, ft, rt, ag, wk, nk, no, nl, cs, cn, cb, fM, fA, fI, fB, fP, fF, vx, bx) (nI s) (nI t) := by
  have key : ∀ d i, i + d = 8 → wX_copyFace_2 post (nI s) (nI t) xa xb xml xsl xfl xrm xsc xfc xmc xus dk dp df pl pd pc pf cd xfr xht (d + 1) (nI i) (sm_cp kx s t i) (sm_cp dx s t i) (sm_cp cx s t i) (sm_cp fx s t i) (sm_cp tx s t i) sp fp ff ft rt ag wk nk no nl cs cn cb fM fA fI fB fP fF vx bx := by
    intro d
    induction d with
    | zero =>
      intro i hi
      have e : i = 8 := by omega
      subst e
      exact br_t (by decide) h
    | succ d ih =>
      intro i hi
      have i1 : vp_in (nI (s * 8 + i)) 424 := vp_in_nI (by omega) (by omega)
      have i2 : vp_in (nI (t * 8 + i)) 424 := vp_in_nI (by omega) (by omega)
      have E : ∀ a : Nat → Int32, upd (sm_cp a s t i) (nI (t * 8 + i)).toNatClampNeg (sm_cp a s t i (nI (s * 8 + i)).toNatClampNeg) = sm_cp a s t (i + 1) := by
        intro a
        rw [nI_clamp (by omega), nI_clamp (by omega)]
        exact sm_cps hn (by omega)
      exact br_f (sm_n8 (by omega)) (nm_r (sm_8r s i) (nm_r (sm_8r t i) ⟨i1, i2, nm_r (E kx) ⟨i1, i2, nm_r (E dx) ⟨i1, i2, nm_r (E cx) ⟨i1, i2, nm_r (E fx) ⟨i1, i2, nm_r (E tx) (nm_r (nI_1 i) (ih (i + 1) (by omega)))⟩⟩⟩⟩⟩))
  have K := key 8 0 rfl
  simp only [sm_cp0, nI_0] at K
  exact ⟨9, K⟩
theorem sm_xtr {post : Int32 → Prop} {n : Nat} {g t : Int32} (hg : g = -1 ∨ ∃ m, m < 16 ∧ g = nI m) (h : post (sm_tr dx n g t)) : wpX_translate post (xa, xb, xml, xsl, xfl, xrm, xsc, xfc, xmc, xus, dk, dp, df, pl, pd, pc, pf, cd, xfr, xht, kx, dx, cx, fx, tx, sp, fp, ff, ft, rt, ag, wk, nk, no, nl, cs, cn, cb, fM, fA, fI, fB, fP, fF, vx, bx) t (nI n) g := by
  unfold wpX_translate
  rcases sm_t4 t with h4 | ⟨j, hj, rfl⟩ | ⟨j, hj, rfl⟩ | ⟨k, h16, hk, rfl⟩
  · rw [sm_tr_neg h4] at h
    have h8 : t < 8 := Int32.lt_trans h4 (by decide)
    exact sm_xin (fun _ => br_t rfl (br_t h8 h)) (fun j hj e => absurd (e ▸ h4) (nI_pos (by omega)))
  · rw [sm_tr_own hj] at h
    refine sm_xin (fun hn => absurd rfl (hn j hj)) (fun i hi e => br_f (by decide) ?_)
    rw [sm_r2, sm_r8]
    exact h
  · have c1 : ¬ nI (8 + j) < 8 := nI_nlt (b := 8) (by omega) (by omega)
    have c2 : ¬ (15 : Int32) < nI (8 + j) := sm_n15 (by omega)
    refine sm_xin (fun hn => br_t rfl (br_f c1 (br_f c2 ?_))) (fun i hi e => absurd (sm_inj e (by omega) (by omega)) (by omega))
    rcases hg with rfl | ⟨m, hm, rfl⟩
    · rw [sm_tr_no hj] at h
      exact br_f sm_n1le h
    · rw [sm_tr_par hj (by omega)] at h
      refine br_t (nI_pos' (by omega)) ?_
      show vp_in (((9 + nI m) * 8 + nI (8 + j)) - 8) 424 ∧ post (dx (((9 + nI m) * 8 + nI (8 + j)) - 8).toNatClampNeg)
      rw [sm_l9, sm_8r, sm_s8 (by omega)]
      refine ⟨vp_in_nI (by omega) (by omega), ?_⟩
      rw [nI_clamp (by omega), show (9 + m) * 8 + (8 + j) - 8 = (9 + m) * 8 + j by omega, sm_mx1 (a := dx) hj]
      exact h
  · have c1 : ¬ nI k < 8 := nI_nlt (b := 8) (by omega) hk
    have c2 : (15 : Int32) < nI k := sm_g15 (by omega) hk
    rw [sm_tr_big h16 hk] at h
    exact sm_xin (fun hn => br_t rfl (br_f c1 (br_t c2 h))) (fun i hi e => absurd (sm_inj e (by omega) (by omega)) (by omega))
theorem sm_xtf {post : SX → Prop} {s t n : Nat} {g : Int32} (hs : s < 53) (ht : t < 53) (hn : s ≠ t) (hg : g = -1 ∨ ∃ m, m < 16 ∧ g = nI m ∧ 9 + m ≠ t) (h : post (xa, xb, xml, xsl, xfl, xrm, xsc, xfc, xmc, xus, dk, dp, df, pl, pd, pc, pf, cd, xfr, xht, sm_cp kx s t 8, sm_mp (sm_cp dx s t 8) (sm_tr dx n g) t 8, sm_mp (sm_cp cx s t 8) (sm_tr dx n g) t 8, sm_cp fx s t 8, sm_cp tx s t 8, sp, fp, ff, ft, rt, ag, wk, nk, no, nl, cs, cn, cb, fM, fA, fI, fB, fP, fF, vx, bx)) : wpX_translateFace post (xa, xb, xml, xsl, xfl, xrm, xsc, xfc, xmc, xus, dk, dp, df, pl, pd, pc, pf, cd, xfr, xht, kx, dx, cx, fx, tx, sp, fp, ff, ft, rt, ag, wk, nk, no, nl, cs, cn, cb, fM, fA, fI, fB, fP, fF, vx, bx) (nI s) (nI t) (nI n) g := by
  unfold wpX_translateFace
  refine sm_xcopy hs ht hn ?_
  have key : ∀ d i, i + d = 8 → wX_translateFace_9 post (nI t) (nI n) g xa xb xml xsl xfl xrm xsc xfc xmc xus dk dp df pl pd pc pf cd xfr xht (d + 1) (nI i) (sm_cp kx s t 8) (sm_mp (sm_cp dx s t 8) (sm_tr dx n g) t i) (sm_mp (sm_cp cx s t 8) (sm_tr dx n g) t i) (sm_cp fx s t 8) (sm_cp tx s t 8) sp fp ff ft rt ag wk nk no nl cs cn cb fM fA fI fB fP fF vx bx := by
    intro d
    induction d with
    | zero =>
      intro i hi
      have e : i = 8 := by omega
      subst e
      exact br_t (by decide) h
    | succ d ih =>
      intro i hi
      have i2 : vp_in (nI (t * 8 + i)) 424 := vp_in_nI (by omega) (by omega)
      have g2 : g = -1 ∨ ∃ m, m < 16 ∧ g = nI m := hg.imp id (fun ⟨m, a, b, _⟩ => ⟨m, a, b⟩)
      have G : ∀ i', i' ≤ 8 → ∀ v, sm_tr (sm_mp (sm_cp dx s t 8) (sm_tr dx n g) t i') n g v = sm_tr dx n g v := by
        intro i' hi' v
        refine sm_tr_congr (hg.imp id (fun ⟨m, a, b, c⟩ => ⟨m, a, b, ?_⟩)) v
        rw [sm_mpo hi' c, sm_cpo c]
      have E : ∀ a : Nat → Int32, upd (sm_mp a (sm_tr dx n g) t i) (nI (t * 8 + i)).toNatClampNeg (sm_tr dx n g (sm_mp a (sm_tr dx n g) t i (nI (t * 8 + i)).toNatClampNeg)) = sm_mp a (sm_tr dx n g) t (i + 1) := by
        intro a
        rw [nI_clamp (by omega)]
        exact sm_mps (by omega)
      refine br_f (sm_n8 (by omega)) (nm_r (sm_8r t i) ⟨i2, sm_xtr g2 ⟨i2, nm_r (e' := sm_mp (sm_cp dx s t 8) (sm_tr dx n g) t (i + 1)) ?_ ⟨i2, sm_xtr g2 ⟨i2, nm_r (e' := sm_mp (sm_cp cx s t 8) (sm_tr dx n g) t (i + 1)) ?_ (nm_r (nI_1 i) (ih (i + 1) (by omega)))⟩⟩⟩⟩)
      · rw [G i (by omega)]; exact E _
      · rw [G (i + 1) (by omega)]; exact E _
  have K := key 8 0 rfl
  simp only [sm_mp0, nI_0] at K
  exact ⟨9, K⟩
theorem sm_xnar {post : SX → Prop} {s t : Nat} (hs : s < 53) (ht : t < 53) (hn : s ≠ t) (h : post (xa, xb, xml, xsl, xfl, xrm, xsc, xfc, xmc, xus, dk, dp, df, pl, pd, pc, pf, cd, xfr, xht, sm_nr kx s t 8, dx, cx, fx, tx, sp, fp, ff, ft, rt, ag, wk, nk, no, nl, cs, cn, cb, fM, fA, fI, fB, fP, fF, vx, bx)) : wpX_narrow post (xa, xb, xml, xsl, xfl, xrm, xsc, xfc, xmc, xus, dk, dp, df, pl, pd, pc, pf, cd, xfr, xht, kx, dx, cx, fx, tx, sp, fp, ff, ft, rt, ag, wk, nk, no, nl, cs, cn, cb, fM, fA, fI, fB, fP, fF, vx, bx) (nI t) (nI s) := by
  have key : ∀ d i, i + d = 8 → wX_narrow_2 post (nI t) (nI s) xa xb xml xsl xfl xrm xsc xfc xmc xus dk dp df pl pd pc pf cd xfr xht (d + 1) (nI i) (sm_nr kx s t i) dx cx fx tx sp fp ff ft rt ag wk nk no nl cs cn cb fM fA fI fB fP fF vx bx := by
    intro d
    induction d with
    | zero =>
      intro i hi
      have e : i = 8 := by omega
      subst e
      exact br_t (by decide) h
    | succ d ih =>
      intro i hi
      unfold wX_narrow_2
      rw [sm_8r, sm_8r, nI_clamp (show s * 8 + i < 2 ^ 31 by omega), nI_clamp (show t * 8 + i < 2 ^ 31 by omega)]
      have i1 : vp_in (nI (s * 8 + i)) 424 := vp_in_nI (by omega) (by omega)
      have i2 : vp_in (nI (t * 8 + i)) 424 := vp_in_nI (by omega) (by omega)
      have r : sm_nr kx s t i (s * 8 + i) = kx (8 * s + i) := by rw [Nat.mul_comm s 8]; exact sm_nrr hn (by omega)
      refine br_f (sm_n8 (by omega)) ⟨i1, ?_⟩
      rw [r]
      refine br_c (fun z => ⟨i2, nm_r (e' := sm_nr kx s t (i + 1)) ?_ (nm_r (nI_1 i) (ih (i + 1) (by omega)))⟩) (fun z => nm_r (nI_1 i) ?_)
      · rw [Nat.mul_comm t 8]; exact sm_nr1 z
      · rw [sm_nr2 z]
        exact ih (i + 1) (by omega)
  have K := key 8 0 rfl
  simp only [sm_nr0, nI_0] at K
  exact ⟨9, K⟩
end sm_X
end
section
/-! what component and spot, meaning, lift give -/
def sm_cmp (kx : Nat → Int32) (mc : Nat) (dp x kind : Int32) : Int32 :=
  if x < 0 then -1 else if (x.toNatClampNeg / 8 = 1 ∧ dp < 0) ∨ (2 ≤ x.toNatClampNeg / 8 ∧ mc ≤ x.toNatClampNeg / 8 - 2) then -1
  else if sm_mx kx (sm_rw dp x.toNatClampNeg) (x.toNatClampNeg % 8) = kind then nI (8 * sm_rw dp x.toNatClampNeg + x.toNatClampNeg % 8) else -1
def sm_mn (kx dx : Nat → Int32) (mc : Nat) (dp x : Int32) : Int32 :=
  if x = -1 then -1 else if 0 ≤ sm_cmp kx mc dp x 1 then sm_lf x.toNatClampNeg (dx (sm_cmp kx mc dp x 1).toNatClampNeg) else -3
theorem sm_rw0 {dp : Int32} {W : Nat} (h : W / 8 = 0) : sm_rw dp W = 0 := if_pos h
theorem sm_rw1 {dp : Int32} {W : Nat} (h : W / 8 = 1) : sm_rw dp W = 1 + dp.toNatClampNeg := by
  unfold sm_rw; rw [if_neg (by omega), if_pos h]
theorem sm_rw2 {dp : Int32} {W : Nat} (h : 2 ≤ W / 8) : sm_rw dp W = 9 + (W / 8 - 2) := by
  unfold sm_rw; rw [if_neg (by omega), if_neg (by omega)]
theorem sm_cmp_neg {kx : Nat → Int32} {mc : Nat} {dp x kind : Int32} (h : x < 0) : sm_cmp kx mc dp x kind = -1 := if_pos h
theorem sm_cmp_bad {kx : Nat → Int32} {mc W : Nat} {dp kind : Int32} (hW : W < 2 ^ 31) (h : (W / 8 = 1 ∧ dp < 0) ∨ (2 ≤ W / 8 ∧ mc ≤ W / 8 - 2)) : sm_cmp kx mc dp (nI W) kind = -1 := by
  unfold sm_cmp
  rw [nI_clamp hW, if_neg (nI_pos hW), if_pos h]
theorem sm_cmp_hit {kx : Nat → Int32} {mc W r : Nat} {dp kind : Int32} (hW : W < 2 ^ 31) (h : ¬ ((W / 8 = 1 ∧ dp < 0) ∨ (2 ≤ W / 8 ∧ mc ≤ W / 8 - 2))) (hr : sm_rw dp W = r) (hk : sm_mx kx r (W % 8) = kind) : sm_cmp kx mc dp (nI W) kind = nI (8 * r + W % 8) := by
  unfold sm_cmp
  rw [nI_clamp hW, if_neg (nI_pos hW), if_neg h, hr, if_pos hk]
theorem sm_cmp_miss {kx : Nat → Int32} {mc W r : Nat} {dp kind : Int32} (hW : W < 2 ^ 31) (h : ¬ ((W / 8 = 1 ∧ dp < 0) ∨ (2 ≤ W / 8 ∧ mc ≤ W / 8 - 2))) (hr : sm_rw dp W = r) (hk : ¬ sm_mx kx r (W % 8) = kind) : sm_cmp kx mc dp (nI W) kind = -1 := by
  unfold sm_cmp
  rw [nI_clamp hW, if_neg (nI_pos hW), if_neg h, hr, if_neg hk]
theorem sm_cmp_sp {kx : Nat → Int32} {sc mc : Nat} {dp x kind : Int32} (hdp : dp = -1 ∨ ∃ p, p < sc ∧ dp = nI p) (hs : sc ≤ 8) (hm : mc ≤ 16) : sm_cmp kx mc dp x kind = -1 ∨ ∃ W, W < 2 ^ 31 ∧ x = nI W ∧ sm_pl sc mc dp W ∧ sm_rw dp W < 25 ∧ sm_mx kx (sm_rw dp W) (W % 8) = kind ∧ sm_cmp kx mc dp x kind = nI (8 * sm_rw dp W + W % 8) := by
  by_cases h : x < 0
  · exact Or.inl (sm_cmp_neg h)
  · obtain ⟨W, hW, rfl⟩ := nI_of h
    by_cases hb : (W / 8 = 1 ∧ dp < 0) ∨ (2 ≤ W / 8 ∧ mc ≤ W / 8 - 2)
    · exact Or.inl (sm_cmp_bad hW hb)
    · by_cases hk : sm_mx kx (sm_rw dp W) (W % 8) = kind
      · refine Or.inr ⟨W, hW, rfl, ⟨fun h1 => ?_, fun h2 => by omega⟩, ?_, hk, sm_cmp_hit hW hb rfl hk⟩
        · rcases hdp with rfl | hdp
          · exact absurd (Or.inl ⟨h1, sm_n1lt⟩) hb
          · exact hdp
        · by_cases h0 : W / 8 = 0
          · rw [sm_rw0 h0]; omega
          · by_cases h1 : W / 8 = 1
            · rw [sm_rw1 h1]
              rcases hdp with rfl | ⟨p, hp, rfl⟩
              · exact absurd (Or.inl ⟨h1, sm_n1lt⟩) hb
              · rw [nI_clamp (by omega)]; omega
            · rw [sm_rw2 (by omega)]; omega
      · exact Or.inl (sm_cmp_miss hW hb rfl hk)
section sm_X
variable {xa xb xml xsl xfl xrm xsc xfc xmc xus dk dp df pl pd pc pf cd xfr xht : Int32} {kx dx cx fx tx sp fp ff ft rt ag wk nk no nl cs cn cb fM fA fI fB fP fF vx bx : Nat → Int32}
theorem sm_xfs1 {post : Int32 → Prop} {x : Int32} {mc : Nat} (hm : mc ≤ 16) (h0 : (∀ j, j < mc → x ≠ nI j) → post (-1)) (h1 : ∀ j, j < mc → x = nI j → post (nI (9 + j))) : wpX_faceSlot post (xa, xb, xml, xsl, xfl, xrm, xsc, xfc, nI mc, xus, dk, dp, df, pl, pd, pc, pf, cd, xfr, xht, kx, dx, cx, fx, tx, sp, fp, ff, ft, rt, ag, wk, nk, no, nl, cs, cn, cb, fM, fA, fI, fB, fP, fF, vx, bx) 1 x := by
  refine br_f (by decide) (br_f (by decide) ?_)
  show wX_faceSlot_40 post 1 x xa xb xml xsl xfl xrm xsc xfc (nI mc) xus dk dp df pl pd pc pf cd xfr xht kx dx cx fx tx sp fp ff ft rt ag wk nk no nl cs cn cb fM fA fI fB fP fF vx bx
  refine br_t rfl (sm_xex (by omega) (fun hn => br_t rfl ?_) (fun j hj e => br_f (by decide) ?_))
  · exact br_f (by decide) (h0 hn)
  · subst e
    have := h1 j hj rfl
    rw [← sm_l9] at this
    exact this
theorem sm_xcmp {post : Int32 → Prop} {x kind : Int32} {sc mc : Nat} (hdp : dp = -1 ∨ ∃ p, p < sc ∧ dp = nI p) (hs : sc ≤ 8) (hm : mc ≤ 16) (h : post (sm_cmp kx mc dp x kind)) : wpX_component post (xa, xb, xml, xsl, xfl, xrm, xsc, xfc, nI mc, xus, dk, dp, df, pl, pd, pc, pf, cd, xfr, xht, kx, dx, cx, fx, tx, sp, fp, ff, ft, rt, ag, wk, nk, no, nl, cs, cn, cb, fM, fA, fI, fB, fP, fF, vx, bx) x kind := by
  by_cases hx : x < 0
  · rw [sm_cmp_neg hx] at h
    exact br_f (fun z => Int32.not_le.mpr hx z) h
  · obtain ⟨W, hW, rfl⟩ := nI_of hx
    refine br_t (nI_pos' hW) ⟨sm_80, ?_⟩
    rw [sm_q8 hW, sm_d8 hW]
    have hit : ∀ r, r < 25 → ¬ ((W / 8 = 1 ∧ dp < 0) ∨ (2 ≤ W / 8 ∧ mc ≤ W / 8 - 2)) → sm_rw dp W = r → (0 ≤ nI r → ¬ (8 : Int32) = 0 ∧ ∀ y, y = nI r * 8 + nI (W % 8) → vp_in y 424 ∧ ((kx y.toNatClampNeg = kind → post y) ∧ (¬ kx y.toNatClampNeg = kind → post (-1)))) ∧ (¬ 0 ≤ nI r → post (-1)) := by
      intro r hr hb hrw
      have : W % 8 < 8 := Nat.mod_lt _ (by decide)
      refine br_t (nI_pos' (by omega)) ⟨sm_80, nm_r (sm_8r _ _) ⟨vp_in_nI (by omega) (by omega), ?_⟩⟩
      rw [nI_clamp (by omega), sm_mx1 (a := kx) this]
      refine br_c (fun e => ?_) (fun e => ?_)
      · rw [sm_cmp_hit hW hb hrw e] at h
        rw [Nat.mul_comm r 8]
        exact h
      · rw [sm_cmp_miss hW hb hrw e] at h
        exact h
    have bad : ((W / 8 = 1 ∧ dp < 0) ∨ (2 ≤ W / 8 ∧ mc ≤ W / 8 - 2)) → (0 ≤ (-1 : Int32) → ¬ (8 : Int32) = 0 ∧ ∀ y, y = -1 * 8 + nI (W % 8) → vp_in y 424 ∧ ((kx y.toNatClampNeg = kind → post y) ∧ (¬ kx y.toNatClampNeg = kind → post (-1)))) ∧ (¬ 0 ≤ (-1 : Int32) → post (-1)) := by
      intro hb
      rw [sm_cmp_bad hW hb] at h
      exact br_f sm_n1le h
    by_cases h0 : W / 8 = 0
    · exact br_t (by rw [h0]; rfl) (hit 0 (by omega) (by omega) (sm_rw0 h0))
    · have e0 : ¬ nI (W / 8) = 0 := nI_ne0 (by omega) (by omega)
      refine br_f e0 ?_
      by_cases h1 : W / 8 = 1
      · refine br_t (by rw [h1]; rfl) ?_
        rcases hdp with rfl | ⟨p, hp, rfl⟩
        · exact br_t sm_n1lt (bad (Or.inl ⟨h1, sm_n1lt⟩))
        · have hp0 := nI_pos (n := p) (by omega)
          have K := hit (1 + p) (by omega) (by rintro (⟨_, z⟩ | z); exact hp0 z; omega) (by rw [sm_rw1 h1, nI_clamp (by omega)])
          rw [← sm_l1] at K
          exact br_f hp0 K
      · refine br_f (fun e => h1 (sm_inj (b := 1) e (by omega) (by omega))) ?_
        rw [sm_s2 (by omega)]
        refine sm_xfs1 hm (fun hn => bad (Or.inr ⟨by omega, ?_⟩)) (fun j hj e => ?_)
        · exact Nat.le_of_not_lt fun z => hn _ z rfl
        · have e2 := sm_inj e (by omega) (by omega)
          exact hit (9 + j) (by omega) (by omega) (by rw [sm_rw2 (by omega), e2])
theorem sm_xlift {post : Int32 → Prop} {W : Nat} {t : Int32} (hW : W < 2 ^ 31) (h : post (sm_lf W t)) : wpX_lift post (xa, xb, xml, xsl, xfl, xrm, xsc, xfc, xmc, xus, dk, dp, df, pl, pd, pc, pf, cd, xfr, xht, kx, dx, cx, fx, tx, sp, fp, ff, ft, rt, ag, wk, nk, no, nl, cs, cn, cb, fM, fA, fI, fB, fP, fF, vx, bx) (nI (W / 8)) t := by
  unfold sm_lf at h
  by_cases h1 : W / 8 = 1
  · rw [if_pos h1] at h
    refine br_t (by rw [h1]; rfl) ?_
    refine sm_xin (fun hn => br_t rfl ?_) (fun j hj e => br_f (by decide) ?_)
    · by_cases h0 : t < 0
      · rw [if_pos h0] at h; exact h
      · rw [if_neg h0] at h
        obtain ⟨k, hk, rfl⟩ := nI_of h0
        have : 8 ≤ k := Nat.le_of_not_lt fun z => hn k z rfl
        rw [if_pos (sm_g8 this hk)] at h
        exact h
    · subst e
      rw [if_neg (nI_pos (by omega)), if_neg (sm_n8 hj)] at h
      exact h
  · rw [if_neg h1] at h
    exact br_f (fun e => h1 (sm_inj (b := 1) e (by omega) (by omega))) h
theorem sm_xmn {post : Int32 → Prop} {x : Int32} {sc mc : Nat} (hdp : dp = -1 ∨ ∃ p, p < sc ∧ dp = nI p) (hs : sc ≤ 8) (hm : mc ≤ 16) (h : post (sm_mn kx dx mc dp x)) : wpX_meaning post (xa, xb, xml, xsl, xfl, xrm, xsc, xfc, nI mc, xus, dk, dp, df, pl, pd, pc, pf, cd, xfr, xht, kx, dx, cx, fx, tx, sp, fp, ff, ft, rt, ag, wk, nk, no, nl, cs, cn, cb, fM, fA, fI, fB, fP, fF, vx, bx) x := by
  unfold sm_mn at h
  by_cases h1 : x = -1
  · rw [if_pos h1] at h
    exact br_t h1 h
  · rw [if_neg h1] at h
    refine br_f h1 (sm_xcmp hdp hs hm ?_)
    rcases sm_cmp_sp (kx := kx) (x := x) (kind := 1) hdp hs hm with e | ⟨W, hW, rfl, hp, hr, hk, e⟩
    · rw [e] at h ⊢
      rw [if_neg sm_n1le] at h
      exact br_f sm_n1le h
    · have : W % 8 < 8 := Nat.mod_lt _ (by decide)
      have p0 : (0 : Int32) ≤ nI (8 * sm_rw dp W + W % 8) := nI_pos' (by omega)
      rw [e] at h ⊢
      rw [if_pos p0, nI_clamp hW] at h
      refine br_t p0 ⟨sm_80, vp_in_nI (by omega) (by omega), ?_⟩
      rw [sm_d8 hW]
      exact sm_xlift hW h
end sm_X
section sm_Y
variable {yrm ynb yus ydk ypl ypd ypc ydp yfr yht yst yfa : Int32} {md mo ky d1 d2 po bo fo ynk yno nbd ynl ycn ycb ck rA rN rD rC rO rX vY bY : Nat → Int32}
theorem sm_yf0 {post : Int32 → Prop} {x : Int32} {c : Nat} (hc : c < 2 ^ 31) (e : md 0 = nI c) (h0 : (∀ j, j < c → x ≠ nI j) → post (-1)) (h1 : ∀ j, j < c → x = nI j → post (nI (1 + j))) : wpY_face post (yrm, ynb, yus, ydk, ypl, ypd, ypc, ydp, yfr, yht, yst, yfa, md, mo, ky, d1, d2, po, bo, fo, ynk, yno, nbd, ynl, ycn, ycb, ck, rA, rN, rD, rC, rO, rX, vY, bY) 0 x := by
  refine br_f (by decide) (br_f (by decide) (br_f (by decide) ?_))
  by_cases h : x < 0
  · exact br_t h (h0 fun j hj e => by subst e; exact nI_pos (by omega) h)
  · obtain ⟨j, hj, rfl⟩ := nI_of h
    refine br_f h ⟨vp_in_iff.mpr (by decide), ?_⟩
    rw [show (0 : Int32).toNatClampNeg = 0 by decide, e]
    by_cases hjc : j < c
    · refine br_t (nI_lt hjc hc) (br_t rfl ?_)
      have := h1 j hjc rfl
      rw [Nat.add_comm, ← nI_add] at this
      exact this
    · exact br_f (nI_nlt (by omega) hj) (h0 fun i hi e => hjc (by rw [sm_inj e hj (by omega)]; exact hi))
theorem sm_yf1 {post : Int32 → Prop} {x : Int32} {c : Nat} (hc : c < 2 ^ 31) (e : md 1 = nI c) (h0 : (∀ j, j < c → x ≠ nI j) → post (-1)) (h1 : ∀ j, j < c → x = nI j → post (nI (9 + j))) : wpY_face post (yrm, ynb, yus, ydk, ypl, ypd, ypc, ydp, yfr, yht, yst, yfa, md, mo, ky, d1, d2, po, bo, fo, ynk, yno, nbd, ynl, ycn, ycb, ck, rA, rN, rD, rC, rO, rX, vY, bY) 1 x := by
  refine br_f (by decide) (br_f (by decide) (br_f (by decide) ?_))
  by_cases h : x < 0
  · exact br_t h (h0 fun j hj e => by subst e; exact nI_pos (by omega) h)
  · obtain ⟨j, hj, rfl⟩ := nI_of h
    refine br_f h ⟨vp_in_iff.mpr (by decide), ?_⟩
    rw [show (1 : Int32).toNatClampNeg = 1 by decide, e]
    by_cases hjc : j < c
    · refine br_t (nI_lt hjc hc) (br_f (by decide) (br_t rfl ?_))
      have := h1 j hjc rfl
      rw [Nat.add_comm, ← nI_add] at this
      exact this
    · exact br_f (nI_nlt (by omega) hj) (h0 fun i hi e => hjc (by rw [sm_inj e hj (by omega)]; exact hi))
theorem sm_yf2 {post : Int32 → Prop} {x : Int32} {c : Nat} (hc : c < 2 ^ 31) (e : md 2 = nI c) (h0 : (∀ j, j < c → x ≠ nI j) → post (-1)) (h1 : ∀ j, j < c → x = nI j → post (nI (25 + j))) : wpY_face post (yrm, ynb, yus, ydk, ypl, ypd, ypc, ydp, yfr, yht, yst, yfa, md, mo, ky, d1, d2, po, bo, fo, ynk, yno, nbd, ynl, ycn, ycb, ck, rA, rN, rD, rC, rO, rX, vY, bY) 2 x := by
  refine br_f (by decide) (br_f (by decide) (br_f (by decide) ?_))
  by_cases h : x < 0
  · exact br_t h (h0 fun j hj e => by subst e; exact nI_pos (by omega) h)
  · obtain ⟨j, hj, rfl⟩ := nI_of h
    refine br_f h ⟨vp_in_iff.mpr (by decide), ?_⟩
    rw [show (2 : Int32).toNatClampNeg = 2 by decide, e]
    by_cases hjc : j < c
    · refine br_t (nI_lt hjc hc) (br_f (by decide) (br_f (by decide) ?_))
      have := h1 j hjc rfl
      rw [Nat.add_comm, ← nI_add] at this
      exact this
    · exact br_f (nI_nlt (by omega) hj) (h0 fun i hi e => hjc (by rw [sm_inj e hj (by omega)]; exact hi))
theorem sm_yf3 {post : Int32 → Prop} {x : Int32} {D : Nat} (hD : D < 3) (h : post 0) : wpY_face post (yrm, ynb, yus, nI D, ypl, ypd, ypc, ydp, yfr, yht, yst, yfa, md, mo, ky, d1, d2, po, bo, fo, ynk, yno, nbd, ynl, ycn, ycb, ck, rA, rN, rD, rC, rO, rX, vY, bY) 3 x :=
  br_t rfl (br_f (nI_pos (by omega)) h)
theorem sm_yf3n {post : Int32 → Prop} {x : Int32} (h : post (-1)) : wpY_face post (yrm, ynb, yus, -1, ypl, ypd, ypc, ydp, yfr, yht, yst, yfa, md, mo, ky, d1, d2, po, bo, fo, ynk, yno, nbd, ynl, ycn, ycb, ck, rA, rN, rD, rC, rO, rX, vY, bY) 3 x :=
  br_t rfl (br_t sm_n1lt h)
theorem sm_ysp {post : Int32 → Prop} {kind : Int32} {r W : Nat} (hr : r < 53) (hW : W < 2 ^ 31) (h1 : sm_mx ky r (W % 8) = kind → post (nI (8 * r + W % 8))) (h0 : ¬ sm_mx ky r (W % 8) = kind → post (-1)) : wY_spot_53 post (nI W) kind (nI r) yrm ynb yus ydk ypl ypd ypc ydp yfr yht yst yfa md mo ky d1 d2 po bo fo ynk yno nbd ynl ycn ycb ck rA rN rD rC rO rX vY bY := by
  have : W % 8 < 8 := Nat.mod_lt _ (by decide)
  unfold wY_spot_53
  rw [sm_q8 hW, sm_r8, nI_clamp (by omega), sm_mx2 (a := ky) this]
  exact br_f (nI_pos (by omega)) ⟨sm_80, vp_in_nI (by omega) (by omega), br_c (fun e => ⟨sm_80, h1 e⟩) h0⟩
theorem sm_ycmp {post : Int32 → Prop} {kx : Nat → Int32} {x kind dp : Int32} {sc mc D : Nat} (hdp : dp = -1 ∨ ∃ p, p < sc ∧ dp = nI p) (hs : sc ≤ 8) (hm : mc ≤ 16) (hD : D < 3) (e0 : md 0 = nI sc) (e1 : md 1 = nI mc) (ep : po 0 = dp)
    (k0 : ∀ l, sm_mx ky 0 l = sm_mx kx 0 l) (ks : ∀ s, s < sc → ∀ l, sm_mx ky (1 + s) l = sm_mx kx (1 + s) l) (km : ∀ m, m < mc → ∀ l, sm_mx ky (9 + m) l = sm_mx kx (9 + m) l)
    (h : post (sm_cmp kx mc dp x kind)) : wpY_spot post (yrm, ynb, yus, nI D, ypl, ypd, ypc, ydp, yfr, yht, yst, yfa, md, mo, ky, d1, d2, po, bo, fo, ynk, yno, nbd, ynl, ycn, ycb, ck, rA, rN, rD, rC, rO, rX, vY, bY) x kind := by
  by_cases hx : x < 0
  · rw [sm_cmp_neg hx] at h
    exact ⟨sm_80, nm_e (br_f (fun z => Int32.not_le.mpr hx z) (br_t sm_n1lt h))⟩
  · obtain ⟨W, hW, rfl⟩ := nI_of hx
    refine ⟨sm_80, nm_r (sm_d8 hW) (br_t (nI_pos' hW) ?_)⟩
    have hit : ∀ r, r < 25 → (∀ l, sm_mx ky r l = sm_mx kx r l) → ¬ ((W / 8 = 1 ∧ dp < 0) ∨ (2 ≤ W / 8 ∧ mc ≤ W / 8 - 2)) → sm_rw dp W = r → wY_spot_53 post (nI W) kind (nI r) yrm ynb yus (nI D) ypl ypd ypc ydp yfr yht yst yfa md mo ky d1 d2 po bo fo ynk yno nbd ynl ycn ycb ck rA rN rD rC rO rX vY bY := by
      intro r hr hk hb hrw
      refine sm_ysp (by omega) hW (fun e => ?_) (fun e => ?_)
      · rw [hk] at e
        rw [sm_cmp_hit hW hb hrw e] at h
        exact h
      · rw [hk] at e
        rw [sm_cmp_miss hW hb hrw e] at h
        exact h
    have bad : ((W / 8 = 1 ∧ dp < 0) ∨ (2 ≤ W / 8 ∧ mc ≤ W / 8 - 2)) → wY_spot_53 post (nI W) kind (-1) yrm ynb yus (nI D) ypl ypd ypc ydp yfr yht yst yfa md mo ky d1 d2 po bo fo ynk yno nbd ynl ycn ycb ck rA rN rD rC rO rX vY bY := by
      intro hb
      rw [sm_cmp_bad hW hb] at h
      exact br_t sm_n1lt h
    by_cases h0 : W / 8 = 0
    · exact br_t (by rw [h0]; rfl) (sm_yf3 hD (hit 0 (by omega) k0 (by omega) (sm_rw0 h0)))
    · refine br_f (nI_ne0 (by omega) (by omega)) ?_
      by_cases h1 : W / 8 = 1
      · refine br_t (by rw [h1]; rfl) ?_
        rw [ep]
        rcases hdp with rfl | ⟨p, hp, rfl⟩
        · exact sm_yf0 (by omega) e0 (fun _ => bad (Or.inl ⟨h1, sm_n1lt⟩)) (fun j hj e => absurd e.symm (sm_ne1 (by omega)))
        · refine sm_yf0 (by omega) e0 (fun hn => absurd rfl (hn p hp)) (fun j hj e => ?_)
          have e2 := sm_inj e (by omega) (by omega)
          subst e2
          have hp0 := nI_pos (n := p) (by omega)
          exact hit (1 + p) (by omega) (ks p hp) (by rintro (⟨_, z⟩ | z); exact hp0 z; omega) (by rw [sm_rw1 h1, nI_clamp (by omega)])
      · refine br_f (fun e => h1 (sm_inj (b := 1) e (by omega) (by omega))) ?_
        rw [sm_s2 (by omega)]
        refine sm_yf1 (by omega) e1 (fun hn => bad (Or.inr ⟨by omega, ?_⟩)) (fun j hj e => ?_)
        · exact Nat.le_of_not_lt fun z => hn _ z rfl
        · have e2 := sm_inj e (by omega) (by omega)
          exact hit (9 + j) (by omega) (km j hj) (by omega) (by rw [sm_rw2 (by omega), e2])
theorem sm_ylift {post : Int32 → Prop} {W : Nat} {t : Int32} (hW : W < 2 ^ 31) (h : post (sm_lf W t)) : wpY_lift post (yrm, ynb, yus, ydk, ypl, ypd, ypc, ydp, yfr, yht, yst, yfa, md, mo, ky, d1, d2, po, bo, fo, ynk, yno, nbd, ynl, ycn, ycb, ck, rA, rN, rD, rC, rO, rX, vY, bY) (nI W) t := by
  unfold sm_lf at h
  refine ⟨sm_80, ?_⟩
  rw [sm_d8 hW]
  by_cases h1 : W / 8 = 1
  · rw [if_pos h1] at h
    refine br_t (by rw [h1]; rfl) ?_
    by_cases h0 : t < 0
    · rw [if_pos h0] at h; exact br_t h0 h
    · rw [if_neg h0] at h
      by_cases h8 : 8 ≤ t
      · rw [if_pos h8] at h; exact br_f h0 (br_t h8 h)
      · rw [if_neg h8] at h; exact br_f h0 (br_f h8 h)
  · rw [if_neg h1] at h
    exact br_f (fun e => h1 (sm_inj (b := 1) e (by omega) (by omega))) h
theorem sm_ymn {post : Int32 → Prop} {kx dx : Nat → Int32} {x dp : Int32} {sc mc D : Nat} (hdp : dp = -1 ∨ ∃ p, p < sc ∧ dp = nI p) (hs : sc ≤ 8) (hm : mc ≤ 16) (hD : D < 3) (e0 : md 0 = nI sc) (e1 : md 1 = nI mc) (ep : po 0 = dp)
    (k0 : ∀ l, sm_mx ky 0 l = sm_mx kx 0 l) (ks : ∀ s, s < sc → ∀ l, sm_mx ky (1 + s) l = sm_mx kx (1 + s) l) (km : ∀ m, m < mc → ∀ l, sm_mx ky (9 + m) l = sm_mx kx (9 + m) l)
    (hd : ∀ W, sm_pl sc mc dp W → sm_mx kx (sm_rw dp W) (W % 8) = 1 → sm_mx d1 (sm_rw dp W) (W % 8) = sm_mx dx (sm_rw dp W) (W % 8))
    (h : post (sm_mn kx dx mc dp x)) : wpY_meaning post (yrm, ynb, yus, nI D, ypl, ypd, ypc, ydp, yfr, yht, yst, yfa, md, mo, ky, d1, d2, po, bo, fo, ynk, yno, nbd, ynl, ycn, ycb, ck, rA, rN, rD, rC, rO, rX, vY, bY) x := by
  unfold sm_mn at h
  refine sm_ycmp hdp hs hm hD e0 e1 ep k0 ks km ?_
  by_cases h1 : x = -1
  · rw [if_pos h1] at h
    exact br_t h1 h
  · rw [if_neg h1] at h
    refine br_f h1 ?_
    rcases sm_cmp_sp (kx := kx) (x := x) (kind := 1) hdp hs hm with e | ⟨W, hW, rfl, hp, hr, hk, e⟩
    · rw [e] at h ⊢
      rw [if_neg sm_n1le] at h
      exact br_f sm_n1le h
    · have : W % 8 < 8 := Nat.mod_lt _ (by decide)
      have p0 : (0 : Int32) ≤ nI (8 * sm_rw dp W + W % 8) := nI_pos' (by omega)
      rw [e] at h ⊢
      rw [if_pos p0, nI_clamp hW, nI_clamp (by omega), sm_mx2 (a := dx) this] at h
      refine br_t p0 ⟨vp_in_nI (by omega) (by omega), ?_⟩
      rw [nI_clamp (by omega), sm_mx2 (a := d1) this, hd W hp hk]
      exact sm_ylift hW h
end sm_Y
end
section
/-! what subst gives -/
theorem sm_sb_lo {a fo : Nat → Int32} {g : Nat} {t : Int32} (h : g < 9) : sm_sb a fo g t = t := if_pos h
theorem sm_sb_hi {a fo : Nat → Int32} {g : Nat} {t : Int32} (h : 25 ≤ g) : sm_sb a fo g t = t := by
  unfold sm_sb; rw [if_neg (by omega), if_neg (by omega)]
theorem sm_sb_neg {a fo : Nat → Int32} {g : Nat} {t : Int32} (h : t < 0) : sm_sb a fo g t = t := by
  unfold sm_sb; rw [if_pos h]; split <;> first | rfl | (split <;> rfl)
theorem sm_sb_own {a fo : Nat → Int32} {g j : Nat} (hg : 9 ≤ g) (hg2 : g < 25) (h : j < 8) : sm_sb a fo g (nI j) = nI (8 * (g - 9 + 2) + j) := by
  unfold sm_sb
  rw [if_neg (by omega), if_pos hg2, if_neg (nI_pos (by omega)), if_neg (sm_n8 h), nI_clamp (by omega)]
theorem sm_sb_big {a fo : Nat → Int32} {g k : Nat} (h : 16 ≤ k) (hk : k < 2 ^ 31) : sm_sb a fo g (nI k) = nI k := by
  unfold sm_sb
  rw [if_neg (nI_pos hk), if_pos (sm_g8 (by omega) hk), if_pos (sm_g16 (by omega) hk)]
  split <;> first | rfl | (split <;> rfl)
theorem sm_sb_no {a fo : Nat → Int32} {g j : Nat} (h : j < 8) (hf : fo g = -1) : sm_sb a fo g (nI (8 + j)) = nI (8 + j) := by
  unfold sm_sb
  rw [if_neg (nI_pos (by omega)), if_pos (sm_g8 (by omega) (by omega)), if_neg (sm_n16 (by omega)), hf, if_pos sm_n1lt]
  split <;> first | rfl | (split <;> rfl)
theorem sm_sb_par {a fo : Nat → Int32} {g j m : Nat} (hg : 9 ≤ g) (hg2 : g < 25) (h : j < 8) (hm : m < 2 ^ 31) (hf : fo g = nI m) : sm_sb a fo g (nI (8 + j)) = sm_mx a m j := by
  unfold sm_sb
  rw [if_neg (by omega), if_pos hg2, if_neg (nI_pos (by omega)), if_pos (sm_g8 (by omega) (by omega)), if_neg (sm_n16 (by omega)), hf, if_neg (nI_pos hm), nI_clamp hm, nI_clamp (by omega), ← sm_mx2 h]
  exact congrArg a (by omega)
theorem sm_sb_congr {a b fo fo' : Nat → Int32} {g : Nat} (hf : fo' g = fo g) (hg : 9 ≤ g → g < 25 → fo g = -1 ∨ ∃ m, m < 53 ∧ fo g = nI m ∧ sm_mx a m = sm_mx b m) (t : Int32) : sm_sb a fo g t = sm_sb b fo' g t := by
  by_cases h9 : g < 9
  · rw [sm_sb_lo h9, sm_sb_lo h9]
  · by_cases h25 : g < 25
    · rcases sm_t4 t with h | ⟨j, hj, rfl⟩ | ⟨j, hj, rfl⟩ | ⟨k, h16, hk, rfl⟩
      · rw [sm_sb_neg h, sm_sb_neg h]
      · rw [sm_sb_own (by omega) h25 hj, sm_sb_own (by omega) h25 hj]
      · rcases hg (by omega) h25 with e | ⟨m, hm, e, em⟩
        · rw [sm_sb_no hj e, sm_sb_no hj (hf.trans e)]
        · rw [sm_sb_par (by omega) h25 hj (by omega) e, sm_sb_par (by omega) h25 hj (by omega) (hf.trans e), em]
      · rw [sm_sb_big h16 hk, sm_sb_big h16 hk]
    · rw [sm_sb_hi (by omega), sm_sb_hi (by omega)]
theorem sm_cps2 {a : Nat → Int32} {s t i : Nat} (h : s ≠ t) (hi : i < 8) : upd (sm_cp a s t i) (8 * t + i) (sm_cp a s t i (8 * s + i)) = sm_cp a s t (i + 1) := by
  rw [Nat.mul_comm 8 t, Nat.mul_comm 8 s]
  exact sm_cps h hi
section sm_Y
variable {yrm ynb yus ydk ypl ypd ypc ydp yfr yht yst yfa : Int32} {md mo ky d1 d2 po bo fo ynk yno nbd ynl ycn ycb ck rA rN rD rC rO rX vY bY : Nat → Int32}
theorem sm_ysub {post : Int32 → Prop} {g : Nat} {t : Int32} (hg : g < 53) (hf : 9 ≤ g → g < 25 → fo g = -1 ∨ ∃ m, m < 53 ∧ fo g = nI m) (h : post (sm_sb d1 fo g t)) : wpY_subst post (yrm, ynb, yus, ydk, ypl, ypd, ypc, ydp, yfr, yht, yst, yfa, md, mo, ky, d1, d2, po, bo, fo, ynk, yno, nbd, ynl, ycn, ycb, ck, rA, rN, rD, rC, rO, rX, vY, bY) t (nI g) := by
  by_cases h9 : g < 9
  · rw [sm_sb_lo h9] at h
    exact br_t (nI_lt (b := 9) h9 (by decide)) h
  · refine br_f (nI_nlt (b := 9) (by omega) (by omega)) ?_
    by_cases h25 : g < 25
    · refine br_t (nI_lt (b := 25) h25 (by decide)) ?_
      have ig : vp_in (nI g) 53 := vp_in_nI hg (by omega)
      rcases sm_t4 t with h4 | ⟨j, hj, rfl⟩ | ⟨j, hj, rfl⟩ | ⟨k, h16, hk, rfl⟩
      · rw [sm_sb_neg h4] at h
        exact br_t h4 (br_t (Int32.lt_trans h4 (by decide)) h)
      · rw [sm_sb_own (by omega) h25 hj] at h
        refine br_f (nI_pos (by omega)) (br_f (sm_n8 hj) ?_)
        rw [sm_s9 (by omega), sm_r2, sm_r8]
        exact h
      · have c8 : (8 : Int32) ≤ nI (8 + j) := sm_g8 (by omega) (by omega)
        refine br_f (nI_pos (by omega)) (br_t c8 (br_f (nI_nlt (b := 8) (by omega) (by omega)) (br_f (sm_n16 (by omega)) ⟨ig, ?_⟩)))
        rw [nI_clamp (show g < 2 ^ 31 by omega)]
        rcases hf (by omega) h25 with e | ⟨m, hm, e⟩
        · rw [sm_sb_no hj e] at h
          rw [e]
          exact br_t sm_n1lt h
        · rw [sm_sb_par (by omega) h25 hj (by omega) e] at h
          rw [e, sm_r8, sm_s8 (by omega)]
          refine br_f (nI_pos (by omega)) ⟨ig, vp_in_nI (by omega) (by omega), ?_⟩
          rw [nI_clamp (by omega), show 8 * m + (8 + j) - 8 = 8 * m + j by omega, sm_mx2 (a := d1) hj]
          exact h
      · rw [sm_sb_big h16 hk] at h
        have c8 : (8 : Int32) ≤ nI k := sm_g8 (by omega) hk
        exact br_f (nI_pos hk) (br_t c8 (br_f (nI_nlt (b := 8) (by omega) hk) (br_t (sm_g16 h16 hk) h)))
    · rw [sm_sb_hi (by omega)] at h
      exact br_f (nI_nlt (b := 25) (by omega) (by omega)) h
theorem sm_ycopy {post : SY → Prop} {s t : Nat} (hs : s < 53) (ht : t < 53) (hn : s ≠ t) (hf : 9 ≤ t → t < 25 → fo t = -1 ∨ ∃ m, m < 53 ∧ fo t = nI m ∧ m ≠ t) (h : post (yrm, ynb, yus, ydk, ypl, ypd, ypc, ydp, yfr, yht, yst, yfa, md, mo, sm_cp ky s t 8, sm_cm d1 (sm_sb d1 fo t) s t 8, sm_cm d2 (sm_sb d1 fo t) s t 8, po, bo, fo, ynk, yno, nbd, ynl, ycn, ycb, ck, rA, rN, rD, rC, rO, rX, vY, bY)) : wpY_copy post (yrm, ynb, yus, ydk, ypl, ypd, ypc, ydp, yfr, yht, yst, yfa, md, mo, ky, d1, d2, po, bo, fo, ynk, yno, nbd, ynl, ycn, ycb, ck, rA, rN, rD, rC, rO, rX, vY, bY) (nI s) (nI t) := by
  have key : ∀ d i, i + d = 8 → wY_copy_2 post (nI s) (nI t) yrm ynb yus ydk ypl ypd ypc ydp yfr yht yst yfa (d + 1) (nI i) md mo (sm_cp ky s t i) (sm_cm d1 (sm_sb d1 fo t) s t i) (sm_cm d2 (sm_sb d1 fo t) s t i) po bo fo ynk yno nbd ynl ycn ycb ck rA rN rD rC rO rX vY bY := by
    intro d
    induction d with
    | zero =>
      intro i hi
      have e : i = 8 := by omega
      subst e
      exact br_t (by decide) h
    | succ d ih =>
      intro i hi
      unfold wY_copy_2
      rw [sm_r8, sm_r8, nI_clamp (show 8 * s + i < 2 ^ 31 by omega), nI_clamp (show 8 * t + i < 2 ^ 31 by omega)]
      have i1 : vp_in (nI (8 * s + i)) 424 := vp_in_nI (by omega) (by omega)
      have i2 : vp_in (nI (8 * t + i)) 424 := vp_in_nI (by omega) (by omega)
      have g2 : 9 ≤ t → t < 25 → fo t = -1 ∨ ∃ m, m < 53 ∧ fo t = nI m := fun a b => (hf a b).imp id (fun ⟨m, a, b, _⟩ => ⟨m, a, b⟩)
      have G : ∀ i', i' ≤ 8 → ∀ v, sm_sb (sm_cm d1 (sm_sb d1 fo t) s t i') fo t v = sm_sb d1 fo t v := by
        intro i' hi' v
        refine sm_sb_congr rfl (fun a b => (hf a b).imp id (fun ⟨m, a, b, c⟩ => ⟨m, a, b, ?_⟩)) v
        rw [sm_cmo hi' c]
      refine br_f (sm_n8 (by omega)) ⟨i1, i2, nm_r (sm_cps2 hn (by omega)) ⟨i1, sm_ysub ht g2 ⟨i2, nm_r (e' := sm_cm d1 (sm_sb d1 fo t) s t (i + 1)) ?_ ⟨i1, sm_ysub ht g2 ⟨i2, nm_r (e' := sm_cm d2 (sm_sb d1 fo t) s t (i + 1)) ?_ (nm_r (nI_1 i) (ih (i + 1) (by omega)))⟩⟩⟩⟩⟩
      · rw [G i (by omega)]; exact sm_cms hn (by omega)
      · rw [G (i + 1) (by omega)]; exact sm_cms hn (by omega)
  have K := key 8 0 rfl
  simp only [sm_cp0, sm_cm0, nI_0] at K
  exact ⟨9, K⟩
theorem sm_ymk0 {post : Int32 → SY → Prop} {c s : Nat} {p2 p3 p4 : Int32} (hc : c < 8) (hs : s < 53) (hn : s ≠ 1 + c) (e : md 0 = nI c) (hp : p2 = -1 ∨ ∃ m, m < 53 ∧ p2 = nI m ∧ m ≠ 1 + c)
    (h : post (nI c) (yrm, ynb, yus, ydk, ypl, ypd, ypc, ydp, yfr, yht, yst, yfa, upd md 0 (nI (c + 1)), mo, sm_cp ky s (1 + c) 8, sm_cm d1 (sm_sb d1 (upd fo (1 + c) p2) (1 + c)) s (1 + c) 8, sm_cm d2 (sm_sb d1 (upd fo (1 + c) p2) (1 + c)) s (1 + c) 8, upd po (1 + c) p3, upd bo (1 + c) p4, upd fo (1 + c) p2, ynk, yno, nbd, ynl, ycn, ycb, ck, rA, rN, rD, rC, rO, rX, vY, bY)) : wpY_make post (yrm, ynb, yus, ydk, ypl, ypd, ypc, ydp, yfr, yht, yst, yfa, md, mo, ky, d1, d2, po, bo, fo, ynk, yno, nbd, ynl, ycn, ycb, ck, rA, rN, rD, rC, rO, rX, vY, bY) 0 (nI s) p2 p3 p4 := by
  have iT : vp_in (0 : Int32) 3 := vp_in_iff.mpr (by decide)
  have cT : (0 : Int32).toNatClampNeg = 0 := by decide
  refine ⟨iT, nm_r (e' := nI c) (by rw [cT]; exact e) ⟨iT, nm_r (e' := upd md 0 (nI (c + 1))) (by rw [cT, nI_1]) ?_⟩⟩
  refine sm_yf0 (c := c + 1) (by omega) pk_us (fun hn => absurd rfl (hn c (by omega))) (fun j hj ej => ?_)
  have e2 := sm_inj ej (by omega) (by omega)
  subst e2
  have i5 : vp_in (nI (1 + c)) 53 := vp_in_nI (by omega) (by omega)
  rw [nI_clamp (show 1 + c < 2 ^ 31 by omega)]
  refine ⟨i5, nm_e ⟨i5, nm_e ⟨i5, nm_e ?_⟩⟩⟩
  refine sm_ycopy hs (by omega) hn (fun _ _ => ?_) h
  rw [pk_us]
  exact hp
theorem sm_ymk1 {post : Int32 → SY → Prop} {c s : Nat} {p2 p3 p4 : Int32} (hc : c < 16) (hs : s < 53) (hn : s ≠ 9 + c) (e : md 1 = nI c) (hp : p2 = -1 ∨ ∃ m, m < 53 ∧ p2 = nI m ∧ m ≠ 9 + c)
    (h : post (nI c) (yrm, ynb, yus, ydk, ypl, ypd, ypc, ydp, yfr, yht, yst, yfa, upd md 1 (nI (c + 1)), mo, sm_cp ky s (9 + c) 8, sm_cm d1 (sm_sb d1 (upd fo (9 + c) p2) (9 + c)) s (9 + c) 8, sm_cm d2 (sm_sb d1 (upd fo (9 + c) p2) (9 + c)) s (9 + c) 8, upd po (9 + c) p3, upd bo (9 + c) p4, upd fo (9 + c) p2, ynk, yno, nbd, ynl, ycn, ycb, ck, rA, rN, rD, rC, rO, rX, vY, bY)) : wpY_make post (yrm, ynb, yus, ydk, ypl, ypd, ypc, ydp, yfr, yht, yst, yfa, md, mo, ky, d1, d2, po, bo, fo, ynk, yno, nbd, ynl, ycn, ycb, ck, rA, rN, rD, rC, rO, rX, vY, bY) 1 (nI s) p2 p3 p4 := by
  have iT : vp_in (1 : Int32) 3 := vp_in_iff.mpr (by decide)
  have cT : (1 : Int32).toNatClampNeg = 1 := by decide
  refine ⟨iT, nm_r (e' := nI c) (by rw [cT]; exact e) ⟨iT, nm_r (e' := upd md 1 (nI (c + 1))) (by rw [cT, nI_1]) ?_⟩⟩
  refine sm_yf1 (c := c + 1) (by omega) pk_us (fun hn => absurd rfl (hn c (by omega))) (fun j hj ej => ?_)
  have e2 := sm_inj ej (by omega) (by omega)
  subst e2
  have i5 : vp_in (nI (9 + c)) 53 := vp_in_nI (by omega) (by omega)
  rw [nI_clamp (show 9 + c < 2 ^ 31 by omega)]
  refine ⟨i5, nm_e ⟨i5, nm_e ⟨i5, nm_e ?_⟩⟩⟩
  refine sm_ycopy hs (by omega) hn (fun _ _ => ?_) h
  rw [pk_us]
  exact hp
theorem sm_ymk2 {post : Int32 → SY → Prop} {c s : Nat} {p2 p3 p4 : Int32} (hc : c < 6) (hs : s < 53) (hn : s ≠ 25 + c) (e : md 2 = nI c) (hp : p2 = -1 ∨ ∃ m, m < 53 ∧ p2 = nI m ∧ m ≠ 25 + c)
    (h : post (nI c) (yrm, ynb, yus, ydk, ypl, ypd, ypc, ydp, yfr, yht, yst, yfa, upd md 2 (nI (c + 1)), mo, sm_cp ky s (25 + c) 8, sm_cm d1 (sm_sb d1 (upd fo (25 + c) p2) (25 + c)) s (25 + c) 8, sm_cm d2 (sm_sb d1 (upd fo (25 + c) p2) (25 + c)) s (25 + c) 8, upd po (25 + c) p3, upd bo (25 + c) p4, upd fo (25 + c) p2, ynk, yno, nbd, ynl, ycn, ycb, ck, rA, rN, rD, rC, rO, rX, vY, bY)) : wpY_make post (yrm, ynb, yus, ydk, ypl, ypd, ypc, ydp, yfr, yht, yst, yfa, md, mo, ky, d1, d2, po, bo, fo, ynk, yno, nbd, ynl, ycn, ycb, ck, rA, rN, rD, rC, rO, rX, vY, bY) 2 (nI s) p2 p3 p4 := by
  have iT : vp_in (2 : Int32) 3 := vp_in_iff.mpr (by decide)
  have cT : (2 : Int32).toNatClampNeg = 2 := by decide
  refine ⟨iT, nm_r (e' := nI c) (by rw [cT]; exact e) ⟨iT, nm_r (e' := upd md 2 (nI (c + 1))) (by rw [cT, nI_1]) ?_⟩⟩
  refine sm_yf2 (c := c + 1) (by omega) pk_us (fun hn => absurd rfl (hn c (by omega))) (fun j hj ej => ?_)
  have e2 := sm_inj ej (by omega) (by omega)
  subst e2
  have i5 : vp_in (nI (25 + c)) 53 := vp_in_nI (by omega) (by omega)
  rw [nI_clamp (show 25 + c < 2 ^ 31 by omega)]
  refine ⟨i5, nm_e ⟨i5, nm_e ⟨i5, nm_e ?_⟩⟩⟩
  refine sm_ycopy hs (by omega) hn (fun _ _ => ?_) h
  rw [pk_us]
  exact hp
theorem sm_ynar {post : Int32 → SY → Prop} {s n : Nat} (hs : s < 53) (hm : n < 16) (hn : s ≠ 9 + n) (h : post (nI n) (yrm, ynb, yus, ydk, ypl, ypd, ypc, ydp, yfr, yht, yst, yfa, md, mo, sm_nr ky s (9 + n) 8, d1, d2, po, bo, fo, ynk, yno, nbd, ynl, ycn, ycb, ck, rA, rN, rD, rC, rO, rX, vY, bY)) : ∃ n100 : Nat, wY_ascribe_100 post (nI s) (nI n) yrm ynb yus ydk ypl ypd ypc ydp yfr yht yst yfa n100 0 md mo ky d1 d2 po bo fo ynk yno nbd ynl ycn ycb ck rA rN rD rC rO rX vY bY := by
  have key : ∀ d i, i + d = 8 → wY_ascribe_100 post (nI s) (nI n) yrm ynb yus ydk ypl ypd ypc ydp yfr yht yst yfa (d + 1) (nI i) md mo (sm_nr ky s (9 + n) i) d1 d2 po bo fo ynk yno nbd ynl ycn ycb ck rA rN rD rC rO rX vY bY := by
    intro d
    induction d with
    | zero =>
      intro i hi
      have e : i = 8 := by omega
      subst e
      exact br_t (by decide) h
    | succ d ih =>
      intro i hi
      unfold wY_ascribe_100
      rw [sm_l9, sm_r8, sm_r8, nI_clamp (show 8 * s + i < 2 ^ 31 by omega), nI_clamp (show 8 * (9 + n) + i < 2 ^ 31 by omega)]
      have i1 : vp_in (nI (8 * s + i)) 424 := vp_in_nI (by omega) (by omega)
      have i2 : vp_in (nI (8 * (9 + n) + i)) 424 := vp_in_nI (by omega) (by omega)
      refine br_f (sm_n8 (by omega)) ⟨i1, ?_⟩
      rw [sm_nrr hn (by omega)]
      refine br_c (fun z => ⟨i2, nm_r (sm_nr1 z) (nm_r (nI_1 i) (ih (i + 1) (by omega)))⟩) (fun z => nm_r (nI_1 i) ?_)
      rw [sm_nr2 z]
      exact ih (i + 1) (by omega)
  have K := key 8 0 rfl
  simp only [sm_nr0, nI_0] at K
  exact ⟨9, K⟩
end sm_Y
end
section
def sm_re (a : Nat → Int32) (f : Nat) (t : Int32) : Int32 := if t < 0 then t else if 8 ≤ t then t else sm_mx a f t.toNatClampNeg
theorem sm_re_own {a : Nat → Int32} {f j : Nat} (h : j < 8) : sm_re a f (nI j) = sm_mx a f j := by
  unfold sm_re
  rw [if_neg (nI_pos (by omega)), if_neg (sm_n8 h), nI_clamp (by omega)]
theorem sm_re_oth {a : Nat → Int32} {f : Nat} {t : Int32} (h : ∀ j, j < 8 → t ≠ nI j) : sm_re a f t = t := by
  unfold sm_re
  by_cases h0 : t < 0
  · rw [if_pos h0]
  · obtain ⟨k, hk, rfl⟩ := nI_of h0
    have : 8 ≤ k := Nat.le_of_not_lt fun z => h k z rfl
    rw [if_neg h0, if_pos (sm_g8 this hk)]
theorem sm_re_eq {a b : Nat → Int32} {f : Nat} {t : Int32} (h : ∀ j, j < 8 → t = nI j → sm_mx a f j = sm_mx b f j) : sm_re a f t = sm_re b f t := by
  rcases sm_in8 t with ⟨j, hj, rfl⟩ | hn
  · rw [sm_re_own hj, sm_re_own hj, h j hj rfl]
  · rw [sm_re_oth hn, sm_re_oth hn]
section sm_X
variable {xa xb xml xsl xfl xrm xsc xfc xmc xus dk dp df pl pd pc pf cd xfr xht : Int32} {kx dx cx fx tx sp fp ff ft rt ag wk nk no nl cs cn cb fM fA fI fB fP fF vx bx : Nat → Int32}
theorem sm_xre {post : Int32 → Prop} {f : Nat} {t : Int32} (hf : f < 53) (h : post (sm_re dx f t)) : wpX_real post (xa, xb, xml, xsl, xfl, xrm, xsc, xfc, xmc, xus, dk, dp, df, pl, pd, pc, pf, cd, xfr, xht, kx, dx, cx, fx, tx, sp, fp, ff, ft, rt, ag, wk, nk, no, nl, cs, cn, cb, fM, fA, fI, fB, fP, fF, vx, bx) (nI f) t := by
  unfold wpX_real
  refine sm_xin (fun hn => br_t rfl ?_) (fun j hj e => br_f (by decide) ?_)
  · rw [sm_re_oth hn] at h; exact h
  · subst e
    rw [sm_re_own hj] at h
    rw [sm_8r]
    refine ⟨vp_in_nI (by omega) (by omega), ?_⟩
    rw [nI_clamp (by omega), sm_mx1 (a := dx) hj]
    exact h
end sm_X
section sm_Y
variable {yrm ynb yus ydk ypl ypd ypc ydp yfr yht yst yfa : Int32} {md mo ky d1 d2 po bo fo ynk yno nbd ynl ycn ycb ck rA rN rD rC rO rX vY bY : Nat → Int32}
theorem sm_yre {post : Int32 → Prop} {f : Nat} {t : Int32} (hf : f < 53) (h : post (sm_re d1 f t)) : wpY_real post (yrm, ynb, yus, ydk, ypl, ypd, ypc, ydp, yfr, yht, yst, yfa, md, mo, ky, d1, d2, po, bo, fo, ynk, yno, nbd, ynl, ycn, ycb, ck, rA, rN, rD, rC, rO, rX, vY, bY) (nI f) t := by
  unfold sm_re at h
  by_cases h0 : t < 0
  · rw [if_pos h0] at h; exact br_t h0 h
  · rw [if_neg h0] at h
    by_cases h8 : 8 ≤ t
    · rw [if_pos h8] at h; exact br_f h0 (br_t h8 h)
    · rw [if_neg h8] at h
      obtain ⟨j, hj, rfl⟩ := nI_of h0
      have hj8 : j < 8 := by
        refine Nat.lt_of_not_le fun z => h8 (sm_g8 z hj)
      rw [nI_clamp hj] at h
      refine br_f h0 (br_f h8 ?_)
      rw [sm_r8]
      refine ⟨vp_in_nI (by omega) (by omega), ?_⟩
      rw [nI_clamp (by omega), sm_mx2 (a := d1) hj8]
      exact h
end sm_Y
section sm_XY
variable {xa xb xml xsl xfl xrm xsc xfc xmc xus dk dp df pl pd pc pf cd xfr xht : Int32} {kx dx cx fx tx sp fp ff ft rt ag wk nk no nl cs cn cb fM fA fI fB fP fF vx bx : Nat → Int32}
variable {yrm ynb yus ydk ypl ypd ypc ydp yfr yht yst yfa : Int32} {md mo ky d1 d2 po bo fo ynk yno nbd ynl ycn ycb ck rA rN rD rC rO rX vY bY : Nat → Int32}
theorem sm_match2 {f s : Nat} (hf : f < 53) (hs : s < 53) (Lf : sm_LR kx dx cx ky d1 d2 f) (Ls : sm_LR kx dx cx ky d1 d2 s) (hk : ∀ l, sm_mx kx s l ≠ 0 → sm_mx kx f l = sm_mx kx s l)
    (hT : ∀ l, sm_mx kx s l ≠ 0 → (∀ j, j < 8 → sm_mx dx s l = nI j → sm_mx kx s j ≠ 0) ∧ (∀ j, j < 8 → sm_mx cx s l = nI j → sm_mx kx s j ≠ 0)) :
    ∀ d i, i + d = 8 → ∃ r : Int32, (∀ post : Int32 → Prop, post r → wX_match_64 post (nI f) (nI s) xa xb xml xsl xfl xrm xsc xfc xmc xus dk dp df pl pd pc pf cd xfr xht kx dx cx fx tx sp fp ff ft rt ag wk nk no nl cs cn cb fM fA fI fB fP fF vx bx (d + 1) (nI i)) ∧ (∀ post : Int32 → Prop, post r → wY_match_58 post (nI f) (nI s) yrm ynb yus ydk ypl ypd ypc ydp yfr yht yst yfa md mo ky d1 d2 po bo fo ynk yno nbd ynl ycn ycb ck rA rN rD rC rO rX vY bY (d + 1) (nI i)) := by
  intro d
  induction d with
  | zero =>
    intro i hi
    have e : i = 8 := by omega
    subst e
    exact ⟨0, fun post h => br_t (by decide) h, fun post h => br_t (by decide) h⟩
  | succ d ih =>
    intro i hi
    obtain ⟨r, hX, hY⟩ := ih (i + 1) (by omega)
    have hi8 : i < 8 := by omega
    have n8 : ¬ (8 : Int32) ≤ nI i := sm_n8 (by omega)
    have is1 : vp_in (nI (s * 8 + i)) 424 := vp_in_nI (by omega) (by omega)
    have if1 : vp_in (nI (f * 8 + i)) 424 := vp_in_nI (by omega) (by omega)
    have is2 : vp_in (nI (8 * s + i)) 424 := vp_in_nI (by omega) (by omega)
    have if2 : vp_in (nI (8 * f + i)) 424 := vp_in_nI (by omega) (by omega)
    have cs1 : ∀ a : Nat → Int32, a (nI (s * 8 + i)).toNatClampNeg = sm_mx a s i := fun a => by rw [nI_clamp (by omega)]; exact sm_mx1 hi8
    have cf1 : ∀ a : Nat → Int32, a (nI (f * 8 + i)).toNatClampNeg = sm_mx a f i := fun a => by rw [nI_clamp (by omega)]; exact sm_mx1 hi8
    have cs2 : ∀ a : Nat → Int32, a (nI (8 * s + i)).toNatClampNeg = sm_mx a s i := fun a => by rw [nI_clamp (by omega)]; exact sm_mx2 hi8
    have cf2 : ∀ a : Nat → Int32, a (nI (8 * f + i)).toNatClampNeg = sm_mx a f i := fun a => by rw [nI_clamp (by omega)]; exact sm_mx2 hi8
    have ks := (Ls i).1
    have YG : ∀ post : Int32 → Prop, ((sm_mx ky s i = 0 → post r) ∧ (¬ sm_mx ky s i = 0 → ((sm_mx d1 f i = sm_re d1 f (sm_mx d1 s i) → ((sm_mx d2 f i = sm_re d1 f (sm_mx d2 s i) → post r) ∧ (¬ sm_mx d2 f i = sm_re d1 f (sm_mx d2 s i) → post (-6)))) ∧ (¬ sm_mx d1 f i = sm_re d1 f (sm_mx d1 s i) → post (-6))))) → wY_match_58 post (nI f) (nI s) yrm ynb yus ydk ypl ypd ypc ydp yfr yht yst yfa md mo ky d1 d2 po bo fo ynk yno nbd ynl ycn ycb ck rA rN rD rC rO rX vY bY (d + 1 + 1) (nI i) := by
      intro post h
      unfold wY_match_58
      rw [sm_r8, sm_r8]
      refine br_f n8 ⟨is2, ?_⟩
      rw [cs2 d1]
      refine sm_yre hf ⟨is2, ?_⟩
      rw [cs2 d2]
      refine sm_yre hf ⟨is2, ?_⟩
      rw [cs2 ky, cf2 d1, cf2 d2]
      refine br_c (fun e => nm_r (nI_1 i) (hY post (h.1 e))) (fun e => ⟨if2, br_c (fun e1 => ⟨if2, br_c (fun e2 => nm_r (nI_1 i) (hY post (((h.2 e).1 e1).1 e2))) (fun e2 => ((h.2 e).1 e1).2 e2)⟩) (fun e1 => (h.2 e).2 e1)⟩)
    have XG : ∀ post : Int32 → Prop, ((sm_mx kx s i = 0 → post r) ∧ (¬ sm_mx kx s i = 0 → ((sm_mx dx f i = sm_re dx f (sm_mx dx s i) → ((sm_mx cx f i = sm_re dx f (sm_mx cx s i) → post r) ∧ (¬ sm_mx cx f i = sm_re dx f (sm_mx cx s i) → post (-6)))) ∧ (¬ sm_mx dx f i = sm_re dx f (sm_mx dx s i) → post (-6))))) → wX_match_64 post (nI f) (nI s) xa xb xml xsl xfl xrm xsc xfc xmc xus dk dp df pl pd pc pf cd xfr xht kx dx cx fx tx sp fp ff ft rt ag wk nk no nl cs cn cb fM fA fI fB fP fF vx bx (d + 1 + 1) (nI i) := by
      intro post h
      refine br_f n8 (nm_r (sm_8r s i) (nm_r (sm_8r f i) ⟨is1, ?_⟩))
      rw [cs1 kx]
      refine br_c (fun e => nm_r (nI_1 i) (hX post (h.1 e))) (fun e => ⟨is1, ?_⟩)
      rw [cs1 dx]
      refine sm_xre hf ⟨is1, ?_⟩
      rw [cs1 cx]
      refine sm_xre hf ⟨if1, ?_⟩
      rw [cf1 dx]
      refine br_c (fun e1 => ⟨if1, ?_⟩) (fun e1 => (h.2 e).2 e1)
      rw [cf1 cx]
      exact br_c (fun e2 => nm_r (nI_1 i) (hX post (((h.2 e).1 e1).1 e2))) (fun e2 => ((h.2 e).1 e1).2 e2)
    by_cases z : sm_mx kx s i = 0
    · exact ⟨r, fun post h => XG post (br_t z h), fun post h => YG post (br_t (ks.trans z) h)⟩
    · have z' : ¬ sm_mx ky s i = 0 := by rw [ks]; exact z
      have own : ∀ j, j < 8 → sm_mx kx s j ≠ 0 → sm_mx dx f j = sm_mx d1 f j := by
        intro j hj hz
        have hfz : sm_mx kx f j ≠ 0 := by rw [hk j hz]; exact hz
        rcases (Lf j).2 with e | ⟨_, _, e, _⟩ | ⟨_, e, _⟩
        · exact absurd e hfz
        · exact e.symm
        · exact e.symm
      have re1 : sm_re dx f (sm_mx dx s i) = sm_re d1 f (sm_mx dx s i) := sm_re_eq fun j hj e => own j hj ((hT i z).1 j hj e)
      have re2 : sm_re dx f (sm_mx cx s i) = sm_re d1 f (sm_mx cx s i) := sm_re_eq fun j hj e => own j hj ((hT i z).2 j hj e)
      have kf := hk i z
      rcases (Ls i).2 with e | ⟨e1, e2, e3, e4⟩ | ⟨e1, e2, e3⟩
      · exact absurd e z
      · have f1 : sm_mx cx f i = sm_mx dx f i ∧ sm_mx d1 f i = sm_mx dx f i ∧ sm_mx d2 f i = -3 := by
          rw [e1] at kf
          rcases (Lf i).2 with g | ⟨_, g2, g3, g4⟩ | ⟨g, _, _⟩
          · rw [kf] at g; exact absurd g (by decide)
          · exact ⟨g2, g3, g4⟩
          · rw [kf] at g; exact absurd g (by decide)
        obtain ⟨f2, f3, f4⟩ := f1
        have m3 : (-3 : Int32) = sm_re d1 f (-3) := rfl
        by_cases c : sm_mx dx f i = sm_re dx f (sm_mx dx s i)
        · refine ⟨r, fun post h => XG post (br_f z (br_t c (br_t (by rw [f2, e2]; exact c) h))), fun post h => YG post (br_f z' (br_t ?_ (br_t ?_ h)))⟩
          · rw [f3, e3, ← re1]; exact c
          · rw [f4, e4]; exact m3
        · refine ⟨-6, fun post h => XG post (br_f z (br_f c h)), fun post h => YG post (br_f z' (br_f ?_ h))⟩
          rw [f3, e3, ← re1]; exact c
      · have f1 : sm_mx d1 f i = sm_mx dx f i ∧ sm_mx d2 f i = sm_mx cx f i := by
          rw [e1] at kf
          rcases (Lf i).2 with g | ⟨g, _, _, _⟩ | ⟨_, g3, g4⟩
          · rw [kf] at g; exact absurd g (by decide)
          · rw [kf] at g; exact absurd g (by decide)
          · exact ⟨g3, g4⟩
        obtain ⟨f3, f4⟩ := f1
        by_cases c : sm_mx dx f i = sm_re dx f (sm_mx dx s i)
        · have c' : sm_mx d1 f i = sm_re d1 f (sm_mx d1 s i) := by rw [f3, e2, ← re1]; exact c
          by_cases c2 : sm_mx cx f i = sm_re dx f (sm_mx cx s i)
          · refine ⟨r, fun post h => XG post (br_f z (br_t c (br_t c2 h))), fun post h => YG post (br_f z' (br_t c' (br_t ?_ h)))⟩
            rw [f4, e3, ← re2]; exact c2
          · refine ⟨-6, fun post h => XG post (br_f z (br_t c (br_f c2 h))), fun post h => YG post (br_f z' (br_t c' (br_f ?_ h)))⟩
            rw [f4, e3, ← re2]; exact c2
        · refine ⟨-6, fun post h => XG post (br_f z (br_f c h)), fun post h => YG post (br_f z' (br_f ?_ h))⟩
          rw [f3, e2, ← re1]; exact c
theorem sm_match1 {f s : Nat} (hf : f < 53) (hs : s < 53) (Lf : sm_LR kx dx cx ky d1 d2 f) (Ls : sm_LR kx dx cx ky d1 d2 s)
    (hT : ∀ l, sm_mx kx s l ≠ 0 → (∀ j, j < 8 → sm_mx dx s l = nI j → sm_mx kx s j ≠ 0) ∧ (∀ j, j < 8 → sm_mx cx s l = nI j → sm_mx kx s j ≠ 0)) :
    ∀ d i, i + d = 8 → (∀ l, l < i → sm_mx kx s l ≠ 0 → sm_mx kx f l = sm_mx kx s l) → ∃ r : Int32, (∀ post : Int32 → Prop, post r → wX_match_9 post (nI f) (nI s) xa xb xml xsl xfl xrm xsc xfc xmc xus dk dp df pl pd pc pf cd xfr xht kx dx cx fx tx sp fp ff ft rt ag wk nk no nl cs cn cb fM fA fI fB fP fF vx bx (d + 1) (nI i)) ∧ (∀ post : Int32 → Prop, post r → wY_match_2 post (nI f) (nI s) yrm ynb yus ydk ypl ypd ypc ydp yfr yht yst yfa md mo ky d1 d2 po bo fo ynk yno nbd ynl ycn ycb ck rA rN rD rC rO rX vY bY (d + 1) (nI i)) ∧ (r = 0 → ∀ l, sm_mx kx s l ≠ 0 → sm_mx kx f l = sm_mx kx s l) := by
  intro d
  induction d with
  | zero =>
    intro i hi hl
    have e : i = 8 := by omega
    subst e
    have hk : ∀ l, sm_mx kx s l ≠ 0 → sm_mx kx f l = sm_mx kx s l := by
      intro l
      have := hl (l % 8) (Nat.mod_lt _ (by decide))
      rw [sm_mxm, sm_mxm] at this
      exact this
    obtain ⟨r, hX, hY⟩ := sm_match2 (xa := xa) (xb := xb) (xml := xml) (xsl := xsl) (xfl := xfl) (xrm := xrm) (xsc := xsc) (xfc := xfc) (xmc := xmc) (xus := xus) (dk := dk) (dp := dp) (df := df) (pl := pl) (pd := pd) (pc := pc) (pf := pf) (cd := cd) (xfr := xfr) (xht := xht) (kx := kx) (dx := dx) (cx := cx) (fx := fx) (tx := tx) (sp := sp) (fp := fp) (ff := ff) (ft := ft) (rt := rt) (ag := ag) (wk := wk) (nk := nk) (no := no) (nl := nl) (cs := cs) (cn := cn) (cb := cb) (fM := fM) (fA := fA) (fI := fI) (fB := fB) (fP := fP) (fF := fF) (vx := vx) (bx := bx) (yrm := yrm) (ynb := ynb) (yus := yus) (ydk := ydk) (ypl := ypl) (ypd := ypd) (ypc := ypc) (ydp := ydp) (yfr := yfr) (yht := yht) (yst := yst) (yfa := yfa) (md := md) (mo := mo) (ky := ky) (d1 := d1) (d2 := d2) (po := po) (bo := bo) (fo := fo) (ynk := ynk) (yno := yno) (nbd := nbd) (ynl := ynl) (ycn := ycn) (ycb := ycb) (ck := ck) (rA := rA) (rN := rN) (rD := rD) (rC := rC) (rO := rO) (rX := rX) (vY := vY) (bY := bY) hf hs Lf Ls hk hT 8 0 rfl
    rw [nI_0] at hX hY
    exact ⟨r, fun post h => br_t (by decide) ⟨9, hX post h⟩, fun post h => br_t (by decide) ⟨9, hY post h⟩, fun _ => hk⟩
  | succ d ih =>
    intro i hi hl
    have hi8 : i < 8 := by omega
    have n8 : ¬ (8 : Int32) ≤ nI i := sm_n8 (by omega)
    have is1 : vp_in (nI (s * 8 + i)) 424 := vp_in_nI (by omega) (by omega)
    have if1 : vp_in (nI (f * 8 + i)) 424 := vp_in_nI (by omega) (by omega)
    have is2 : vp_in (nI (8 * s + i)) 424 := vp_in_nI (by omega) (by omega)
    have if2 : vp_in (nI (8 * f + i)) 424 := vp_in_nI (by omega) (by omega)
    have cs1 : kx (nI (s * 8 + i)).toNatClampNeg = sm_mx kx s i := by rw [nI_clamp (by omega)]; exact sm_mx1 hi8
    have cf1 : kx (nI (f * 8 + i)).toNatClampNeg = sm_mx kx f i := by rw [nI_clamp (by omega)]; exact sm_mx1 hi8
    have cs2 : ky (nI (8 * s + i)).toNatClampNeg = sm_mx kx s i := by rw [nI_clamp (by omega)]; exact (sm_mx2 hi8).trans (Ls i).1
    have cf2 : ky (nI (8 * f + i)).toNatClampNeg = sm_mx kx f i := by rw [nI_clamp (by omega)]; exact (sm_mx2 hi8).trans (Lf i).1
    have XG : ∀ (n : Nat) (post : Int32 → Prop), ((sm_mx kx s i = 0 → wX_match_9 post (nI f) (nI s) xa xb xml xsl xfl xrm xsc xfc xmc xus dk dp df pl pd pc pf cd xfr xht kx dx cx fx tx sp fp ff ft rt ag wk nk no nl cs cn cb fM fA fI fB fP fF vx bx n (nI (i + 1))) ∧ (¬ sm_mx kx s i = 0 → ((sm_mx kx f i = sm_mx kx s i → wX_match_9 post (nI f) (nI s) xa xb xml xsl xfl xrm xsc xfc xmc xus dk dp df pl pd pc pf cd xfr xht kx dx cx fx tx sp fp ff ft rt ag wk nk no nl cs cn cb fM fA fI fB fP fF vx bx n (nI (i + 1))) ∧ (¬ sm_mx kx f i = sm_mx kx s i → post (-5))))) → wX_match_9 post (nI f) (nI s) xa xb xml xsl xfl xrm xsc xfc xmc xus dk dp df pl pd pc pf cd xfr xht kx dx cx fx tx sp fp ff ft rt ag wk nk no nl cs cn cb fM fA fI fB fP fF vx bx (n + 1) (nI i) := by
      intro n post h
      unfold wX_match_9
      rw [sm_8r, sm_8r, cs1, cf1]
      exact br_f n8 ⟨is1, nm_e (br_c (fun e => nm_r (nI_1 i) (h.1 e)) (fun e => ⟨if1, br_c (fun e1 => nm_r (nI_1 i) ((h.2 e).1 e1)) (fun e1 => (h.2 e).2 e1)⟩))⟩
    have YG : ∀ (n : Nat) (post : Int32 → Prop), ((sm_mx kx s i = 0 → wY_match_2 post (nI f) (nI s) yrm ynb yus ydk ypl ypd ypc ydp yfr yht yst yfa md mo ky d1 d2 po bo fo ynk yno nbd ynl ycn ycb ck rA rN rD rC rO rX vY bY n (nI (i + 1))) ∧ (¬ sm_mx kx s i = 0 → ((sm_mx kx f i = sm_mx kx s i → wY_match_2 post (nI f) (nI s) yrm ynb yus ydk ypl ypd ypc ydp yfr yht yst yfa md mo ky d1 d2 po bo fo ynk yno nbd ynl ycn ycb ck rA rN rD rC rO rX vY bY n (nI (i + 1))) ∧ (¬ sm_mx kx f i = sm_mx kx s i → post (-5))))) → wY_match_2 post (nI f) (nI s) yrm ynb yus ydk ypl ypd ypc ydp yfr yht yst yfa md mo ky d1 d2 po bo fo ynk yno nbd ynl ycn ycb ck rA rN rD rC rO rX vY bY (n + 1) (nI i) := by
      intro n post h
      unfold wY_match_2
      rw [sm_r8, sm_r8, cs2, cf2]
      exact br_f n8 ⟨is2, br_c (fun e => nm_r (nI_1 i) (h.1 e)) (fun e => ⟨if2, is2, br_c (fun e1 => nm_r (nI_1 i) ((h.2 e).1 e1)) (fun e1 => (h.2 e).2 e1)⟩)⟩
    by_cases z : sm_mx kx s i = 0
    · obtain ⟨r, hX, hY, hr⟩ := ih (i + 1) (by omega) (fun l hl' hz => by
        by_cases e : l = i
        · subst e; exact absurd z hz
        · exact hl l (by omega) hz)
      exact ⟨r, fun post h => XG _ post (br_t z (hX post h)), fun post h => YG _ post (br_t z (hY post h)), hr⟩
    · by_cases c : sm_mx kx f i = sm_mx kx s i
      · obtain ⟨r, hX, hY, hr⟩ := ih (i + 1) (by omega) (fun l hl' hz => by
          by_cases e : l = i
          · subst e; exact c
          · exact hl l (by omega) hz)
        exact ⟨r, fun post h => XG _ post (br_f z (br_t c (hX post h))), fun post h => YG _ post (br_f z (br_t c (hY post h))), hr⟩
      · exact ⟨-5, fun post h => XG _ post (br_f z (br_f c h)), fun post h => YG _ post (br_f z (br_f c h)), fun e => absurd e (by decide)⟩
theorem sm_match {f s : Nat} (hf : f < 53) (hs : 1 + s < 53) (Lf : sm_LR kx dx cx ky d1 d2 f) (Ls : sm_LR kx dx cx ky d1 d2 (1 + s))
    (hT : ∀ l, sm_mx kx (1 + s) l ≠ 0 → (∀ j, j < 8 → sm_mx dx (1 + s) l = nI j → sm_mx kx (1 + s) j ≠ 0) ∧ (∀ j, j < 8 → sm_mx cx (1 + s) l = nI j → sm_mx kx (1 + s) j ≠ 0)) :
    ∃ r : Int32, (∀ post : Int32 → Prop, post r → wpX_match post (xa, xb, xml, xsl, xfl, xrm, xsc, xfc, xmc, xus, dk, dp, df, pl, pd, pc, pf, cd, xfr, xht, kx, dx, cx, fx, tx, sp, fp, ff, ft, rt, ag, wk, nk, no, nl, cs, cn, cb, fM, fA, fI, fB, fP, fF, vx, bx) (nI f) (nI s)) ∧ (∀ post : Int32 → Prop, post r → wpY_match post (yrm, ynb, yus, ydk, ypl, ypd, ypc, ydp, yfr, yht, yst, yfa, md, mo, ky, d1, d2, po, bo, fo, ynk, yno, nbd, ynl, ycn, ycb, ck, rA, rN, rD, rC, rO, rX, vY, bY) (nI f) (nI (1 + s))) ∧ (r = 0 → ∀ l, sm_mx kx (1 + s) l ≠ 0 → sm_mx kx f l = sm_mx kx (1 + s) l) := by
  obtain ⟨r, hX, hY, hr⟩ := sm_match1 (xa := xa) (xb := xb) (xml := xml) (xsl := xsl) (xfl := xfl) (xrm := xrm) (xsc := xsc) (xfc := xfc) (xmc := xmc) (xus := xus) (dk := dk) (dp := dp) (df := df) (pl := pl) (pd := pd) (pc := pc) (pf := pf) (cd := cd) (xfr := xfr) (xht := xht) (kx := kx) (dx := dx) (cx := cx) (fx := fx) (tx := tx) (sp := sp) (fp := fp) (ff := ff) (ft := ft) (rt := rt) (ag := ag) (wk := wk) (nk := nk) (no := no) (nl := nl) (cs := cs) (cn := cn) (cb := cb) (fM := fM) (fA := fA) (fI := fI) (fB := fB) (fP := fP) (fF := fF) (vx := vx) (bx := bx) (yrm := yrm) (ynb := ynb) (yus := yus) (ydk := ydk) (ypl := ypl) (ypd := ypd) (ypc := ypc) (ydp := ydp) (yfr := yfr) (yht := yht) (yst := yst) (yfa := yfa) (md := md) (mo := mo) (ky := ky) (d1 := d1) (d2 := d2) (po := po) (bo := bo) (fo := fo) (ynk := ynk) (yno := yno) (nbd := nbd) (ynl := ynl) (ycn := ycn) (ycb := ycb) (ck := ck) (rA := rA) (rN := rN) (rD := rD) (rC := rC) (rO := rO) (rX := rX) (vY := vY) (bY := bY) hf hs Lf Ls hT 8 0 rfl (fun l hl => absurd hl (by omega))
  rw [nI_0] at hX hY
  refine ⟨r, fun post h => ?_, fun post h => ⟨9, hY post h⟩, hr⟩
  show ∃ n9 : Nat, wX_match_9 post (nI f) (1 + nI s) xa xb xml xsl xfl xrm xsc xfc xmc xus dk dp df pl pd pc pf cd xfr xht kx dx cx fx tx sp fp ff ft rt ag wk nk no nl cs cn cb fM fA fI fB fP fF vx bx n9 0
  rw [sm_l1]
  exact ⟨9, hX post h⟩
end sm_XY
end
section
def sm_ct (nk no nl rt ag : Nat → Int32) (cost : Nat → Nat) (n a : Nat) : Nat → Nat → Nat
  | 0, _ => 0
  | i + 1, l => if nl (a + i) = nI l then sm_ct nk no nl rt ag cost n a i l + 1 + (if nk (a + i) = 5 then (if (no (a + i)).toNatClampNeg / 8 = 0 then sm_ct nk no nl rt ag cost n a i ((no (a + i)).toNatClampNeg % 8) else cost (8 * sm_ce rt ag n (no (a + i)).toNatClampNeg + (no (a + i)).toNatClampNeg % 8)) else 0) else sm_ct nk no nl rt ag cost n a i l
def sm_cs (cost : Nat → Nat) (n : Nat) (f : Nat → Nat) : Nat → Nat := fun j => if j / 8 = n then f (j % 8) else cost j
theorem sm_cap_add (a b : Nat) : sm_cap (sm_cap a + 1 + sm_cap b) = sm_cap (a + 1 + b) := by
  unfold sm_cap
  repeat' split
  all_goals omega
theorem sm_cap_1 (a : Nat) : sm_cap (sm_cap a + 1) = sm_cap (a + 1) := by
  unfold sm_cap
  repeat' split
  all_goals omega
theorem sm_cap_le (a : Nat) : sm_cap a ≤ 241 := by
  unfold sm_cap
  split <;> omega
section sm_P
variable {nk no nl rt ag : Nat → Int32} {cost : Nat → Nat} {n a : Nat}
theorem sm_ct_s (i l : Nat) : sm_ct nk no nl rt ag cost n a (i + 1) l = if nl (a + i) = nI l then sm_ct nk no nl rt ag cost n a i l + 1 + (if nk (a + i) = 5 then (if (no (a + i)).toNatClampNeg / 8 = 0 then sm_ct nk no nl rt ag cost n a i ((no (a + i)).toNatClampNeg % 8) else cost (8 * sm_ce rt ag n (no (a + i)).toNatClampNeg + (no (a + i)).toNatClampNeg % 8)) else 0) else sm_ct nk no nl rt ag cost n a i l := rfl
theorem sm_ct_st {l i : Nat} : ∀ d, (∀ k, a + i ≤ k → k < a + i + d → ¬ nl k = nI l) → sm_ct nk no nl rt ag cost n a (i + d) l = sm_ct nk no nl rt ag cost n a i l := by
  intro d
  induction d with
  | zero => intro _; rfl
  | succ d ih =>
    intro h
    rw [← Nat.add_assoc, sm_ct_s, if_neg (h _ (by omega) (by omega))]
    exact ih fun k h1 h2 => h k h1 (by omega)
theorem sm_ct_run {l a' c' c : Nat} (h1 : a ≤ a') (h2 : c' ≤ c) (hr : ∀ k, a ≤ k → k < c → (nl k = nI l ↔ (a' ≤ k ∧ k < c')))
    (hc : ∀ k, a' ≤ k → k < c' → nk k = 5 → ∃ W, W < 2 ^ 31 ∧ no k = nI W ∧ (W / 8 = 0 → ∀ k', k ≤ k' → k' < c → ¬ nl k' = nI (W % 8)) ∧ (W / 8 ≠ 0 → sm_ce rt ag n W ≠ n)) :
    ∀ d, a' + d ≤ c' → sm_ct nk no nl rt ag cost n a (a' - a + d) l = sm_S (fun i => 1 + sm_nc nk no rt ag (sm_cs cost n (sm_ct nk no nl rt ag cost n a (c - a))) n i) a' d := by
  intro d
  induction d with
  | zero =>
    intro h
    have e := sm_ct_st (nk := nk) (no := no) (nl := nl) (rt := rt) (ag := ag) (cost := cost) (n := n) (a := a) (l := l) (i := 0) (a' - a) (fun k k1 k2 z => by have := (hr k (by omega) (by omega)).mp z; omega)
    rw [Nat.zero_add] at e
    exact e
  | succ d ih =>
    intro h
    have e : a + (a' - a + d) = a' + d := by omega
    rw [← Nat.add_assoc, sm_ct_s, e, if_pos ((hr _ (by omega) (by omega)).mpr ⟨by omega, by omega⟩), ih (by omega)]
    have key : (if nk (a' + d) = 5 then (if (no (a' + d)).toNatClampNeg / 8 = 0 then sm_ct nk no nl rt ag cost n a (a' - a + d) ((no (a' + d)).toNatClampNeg % 8) else cost (8 * sm_ce rt ag n (no (a' + d)).toNatClampNeg + (no (a' + d)).toNatClampNeg % 8)) else 0) = sm_nc nk no rt ag (sm_cs cost n (sm_ct nk no nl rt ag cost n a (c - a))) n (a' + d) := by
      unfold sm_nc
      by_cases hk : nk (a' + d) = 5
      · rw [if_pos hk, if_pos hk]
        obtain ⟨W, hW, e2, p0, p1⟩ := hc _ (by omega) (by omega) hk
        rw [e2, nI_clamp hW]
        have : W % 8 < 8 := Nat.mod_lt _ (by decide)
        by_cases hz : W / 8 = 0
        · rw [if_pos hz]
          have ece : sm_ce rt ag n W = n := if_pos hz
          rw [ece]
          unfold sm_cs
          rw [if_pos (by omega), show (8 * n + W % 8) % 8 = W % 8 by omega]
          have e3 := sm_ct_st (nk := nk) (no := no) (nl := nl) (rt := rt) (ag := ag) (cost := cost) (n := n) (a := a) (l := W % 8) (i := a' - a + d) (c - a - (a' - a + d)) (fun k k1 k2 => p0 hz k (by omega) (by omega))
          rw [← e3]
          exact congrArg (fun z => sm_ct nk no nl rt ag cost n a z (W % 8)) (by omega)
        · rw [if_neg hz]
          have := p1 hz
          unfold sm_cs
          rw [if_neg (by omega)]
      · rw [if_neg hk, if_neg hk]
    rw [key, Nat.add_assoc]
    rfl
theorem sm_ct_eq {l a' c' c : Nat} (hl : l < 8) (h1 : a ≤ a') (h12 : a' ≤ c') (h2 : c' ≤ c) (hr : ∀ k, a ≤ k → k < c → (nl k = nI l ↔ (a' ≤ k ∧ k < c')))
    (hc : ∀ k, a' ≤ k → k < c' → nk k = 5 → ∃ W, W < 2 ^ 31 ∧ no k = nI W ∧ (W / 8 = 0 → ∀ k', k ≤ k' → k' < c → ¬ nl k' = nI (W % 8)) ∧ (W / 8 ≠ 0 → sm_ce rt ag n W ≠ n)) :
    sm_CQ nk no rt ag (sm_cs cost n (sm_ct nk no nl rt ag cost n a (c - a))) n l a' c' := by
  unfold sm_CQ
  have e := sm_ct_run (cost := cost) h1 h2 hr hc (c' - a') (by omega)
  rw [← e]
  have e2 : sm_cs cost n (sm_ct nk no nl rt ag cost n a (c - a)) (8 * n + l) = sm_ct nk no nl rt ag cost n a (c - a) l := by
    unfold sm_cs
    rw [if_pos (by omega), show (8 * n + l) % 8 = l by omega]
  rw [e2]
  have e3 := sm_ct_st (nk := nk) (no := no) (nl := nl) (rt := rt) (ag := ag) (cost := cost) (n := n) (a := a) (l := l) (i := a' - a + (c' - a')) (c - a - (a' - a + (c' - a'))) (fun k k1 k2 z => by have := (hr k (by omega) (by omega)).mp z; omega)
  rw [← e3]
  exact congrArg (fun z => sm_ct nk no nl rt ag cost n a z l) (by omega)
end sm_P
section sm_X
variable {xa xb xml xsl xfl xrm xsc xfc xmc xus dk dp df pl pd pc pf cd xfr xht : Int32} {kx dx cx fx tx sp fp ff ft rt ag wk nk no nl cs cn cb fM fA fI fB fP fF vx bx : Nat → Int32}
theorem sm_xcal {post : Int32 → Prop} {q W m : Nat} (hq : q < 16) (hW : W < 2 ^ 31) (h0 : W / 8 = 0 → m = q) (h1 : W / 8 = 1 → ag q = nI m) (h2 : 2 ≤ W / 8 → m = W / 8 - 2) (h : post (nI m)) : wpX_callee post (xa, xb, xml, xsl, xfl, xrm, xsc, xfc, xmc, xus, dk, dp, df, pl, pd, pc, pf, cd, xfr, xht, kx, dx, cx, fx, tx, sp, fp, ff, ft, rt, ag, wk, nk, no, nl, cs, cn, cb, fM, fA, fI, fB, fP, fF, vx, bx) (nI q) (nI W) := by
  refine ⟨sm_80, nm_r (sm_d8 hW) ?_⟩
  by_cases z0 : W / 8 = 0
  · refine br_t (by rw [z0]; rfl) ?_
    rw [← h0 z0]; exact h
  · refine br_f (nI_ne0 (by omega) (by omega)) ?_
    by_cases z1 : W / 8 = 1
    · refine br_t (by rw [z1]; rfl) ⟨vp_in_nI hq (by omega), ?_⟩
      rw [nI_clamp (by omega), h1 z1]; exact h
    · refine br_f (fun e => z1 (sm_inj (b := 1) e (by omega) (by omega))) ?_
      rw [sm_s2 (by omega), ← h2 (by omega)]; exact h
theorem sm_xm95 {post : SX → Prop} {J : Int32 → (Nat → Int32) → (Nat → Int32) → (Nat → Int32) → (Nat → Int32) → (Nat → Int32) → (Nat → Int32) → (Nat → Int32) → (Nat → Int32) → (Nat → Int32) → (Nat → Int32) → (Nat → Int32) → (Nat → Int32) → (Nat → Int32) → (Nat → Int32) → (Nat → Int32) → (Nat → Int32) → (Nat → Int32) → (Nat → Int32) → (Nat → Int32) → (Nat → Int32) → (Nat → Int32) → (Nat → Int32) → (Nat → Int32) → (Nat → Int32) → (Nat → Int32) → (Nat → Int32) → Prop} {n c i L S : Nat} (hn : n < 16) (hL : L < 8) (hS : S < 2 ^ 31) (h : J (nI (i + 1)) kx dx cx fx tx sp fp ff ft rt ag (upd wk (n * 8 + L) (nI (sm_cap S))) nk no nl cs cn cb fM fA fI fB fP fF vx bx) : wX_measure_95 post J (nI n) (nI c) (nI i) (nI (n * 8 + L)) (nI S) xa xb xml xsl xfl xrm xsc xfc xmc xus dk dp df pl pd pc pf cd xfr xht kx dx cx fx tx sp fp ff ft rt ag wk nk no nl cs cn cb fM fA fI fB fP fF vx bx := by
  have iv : vp_in (nI (n * 8 + L)) 128 := vp_in_nI (by omega) (by omega)
  unfold wX_measure_95
  rw [nI_clamp (show n * 8 + L < 2 ^ 31 by omega)]
  unfold sm_cap at h
  refine pk_le S 240 (fun z => ⟨iv, nm_e (nm_r (nI_1 i) ?_)⟩) (fun z => ⟨iv, nm_e (nm_r (nI_1 i) ?_)⟩)
  · rw [if_pos z] at h; exact h
  · rw [if_neg (by omega)] at h; exact h
theorem sm_xmeas {post : SX → Prop} {cost : Nat → Nat} {n a c : Nat} (hn : n < 16) (hc : c ≤ 192) (hac : a ≤ c)
    (w0 : ∀ l, l < 8 → wk (8 * n + l) = 0)
    (hN : ∀ i, a ≤ i → i < c → ∃ L, L < 8 ∧ nl i = nI L ∧ (nk i = 5 → ∃ W m r, W < 2 ^ 31 ∧ no i = nI W ∧ ((W / 8 = 0 → m = n) ∧ (W / 8 = 1 → ag n = nI m) ∧ (2 ≤ W / 8 → m = W / 8 - 2)) ∧ m < 16 ∧ r < 16 ∧ rt m = nI r ∧ (W / 8 = 0 → r = n) ∧ (W / 8 ≠ 0 → r ≠ n ∧ wk (8 * r + W % 8) = nI (sm_cap (cost (8 * r + W % 8))))))
    (h : ∀ w : Nat → Int32, (∀ j, ¬ j / 8 = n → w j = wk j) → (∀ l, l < 8 → w (8 * n + l) = nI (sm_cap (sm_ct nk no nl rt ag cost n a (c - a) l))) → post (xa, xb, xml, xsl, xfl, xrm, xsc, xfc, xmc, xus, dk, dp, df, pl, pd, pc, pf, cd, xfr, xht, kx, dx, cx, fx, tx, sp, fp, ff, ft, rt, ag, w, nk, no, nl, cs, cn, cb, fM, fA, fI, fB, fP, fF, vx, bx)) : wpX_measure post (xa, xb, xml, xsl, xfl, xrm, xsc, xfc, xmc, xus, dk, dp, df, pl, pd, pc, pf, cd, xfr, xht, kx, dx, cx, fx, tx, sp, fp, ff, ft, rt, ag, wk, nk, no, nl, cs, cn, cb, fM, fA, fI, fB, fP, fF, vx, bx) (nI n) (nI a) (nI c) := by
  have key : ∀ d i, a + i + d = c → ∀ w : Nat → Int32, (∀ j, ¬ j / 8 = n → w j = wk j) → (∀ l, l < 8 → w (8 * n + l) = nI (sm_cap (sm_ct nk no nl rt ag cost n a i l))) → wX_measure_3 post (nI n) (nI c) xa xb xml xsl xfl xrm xsc xfc xmc xus dk dp df pl pd pc pf cd xfr xht (d + 1) (nI (a + i)) kx dx cx fx tx sp fp ff ft rt ag w nk no nl cs cn cb fM fA fI fB fP fF vx bx := by
    intro d
    induction d with
    | zero =>
      intro i hi w h1 h2
      have e : i = c - a := by omega
      subst e
      exact br_t (nI_le (by omega) (by omega)) (h w h1 h2)
    | succ d ih =>
      intro i hi w h1 h2
      obtain ⟨L, hL, eL, hcall⟩ := hN (a + i) (by omega) (by omega)
      have i4 : vp_in (nI (a + i)) 192 := vp_in_nI (by omega) (by omega)
      have c4 : (nI (a + i)).toNatClampNeg = a + i := nI_clamp (by omega)
      have iL : vp_in (nI (n * 8 + L)) 128 := vp_in_nI (by omega) (by omega)
      have cL : (nI (n * 8 + L)).toNatClampNeg = n * 8 + L := nI_clamp (by omega)
      have next : ∀ S, S < 2 ^ 31 → sm_cap S = sm_cap (sm_ct nk no nl rt ag cost n a (i + 1) L) → wX_measure_95 post (wX_measure_3 post (nI n) (nI c) xa xb xml xsl xfl xrm xsc xfc xmc xus dk dp df pl pd pc pf cd xfr xht (d + 1)) (nI n) (nI c) (nI (a + i)) (nI (n * 8 + L)) (nI S) xa xb xml xsl xfl xrm xsc xfc xmc xus dk dp df pl pd pc pf cd xfr xht kx dx cx fx tx sp fp ff ft rt ag w nk no nl cs cn cb fM fA fI fB fP fF vx bx := by
        intro S hS eS
        refine sm_xm95 hn hL hS ?_
        rw [eS]
        refine ih (i + 1) (by omega) _ (fun j hj => ?_) (fun l hl => ?_)
        · rw [pk_un (by omega)]; exact h1 j hj
        · by_cases e : l = L
          · subst e
            rw [show n * 8 + l = 8 * n + l by omega, pk_us]
          · rw [pk_un (by omega), h2 l hl, sm_ct_s, if_neg]
            rw [eL]
            exact fun z => e (sm_inj z (by omega) (by omega)).symm
      have hct : sm_cap (sm_ct nk no nl rt ag cost n a i L) ≤ 241 := sm_cap_le _
      refine br_f (nI_ge (by omega) (by omega)) ⟨i4, nm_r (e' := nI (n * 8 + L)) (by rw [c4, eL, sm_8r]) ⟨iL, nm_r (e' := nI (sm_cap (sm_ct nk no nl rt ag cost n a i L) + 1)) (by rw [cL, show n * 8 + L = 8 * n + L by omega, h2 L hL, nI_1]) ⟨i4, ?_⟩⟩⟩
      rw [c4]
      refine br_c (fun hk => ⟨i4, ?_⟩) (fun hk => next _ (by omega) ?_)
      · obtain ⟨W, m, r, hW, eW, ⟨m0, m1, m2⟩, hm, hr, er, r0, r1⟩ := hcall hk
        have hq : W % 8 < 8 := Nat.mod_lt _ (by decide)
        have hb : sm_cap (cost (8 * r + W % 8)) ≤ 241 := sm_cap_le _
        rw [eW]
        refine sm_xcal hn hW m0 m1 m2 (br_f (nI_pos (by omega)) ⟨vp_in_nI hm (by omega), i4, sm_80, ?_⟩)
        rw [sm_q8 hW, nI_clamp (show m < 2 ^ 31 by omega), er, sm_8r]
        refine ⟨vp_in_nI (by omega) (by omega), ?_⟩
        rw [nI_clamp (by omega)]
        have ect : sm_ct nk no nl rt ag cost n a (i + 1) L = sm_ct nk no nl rt ag cost n a i L + 1 + (if W / 8 = 0 then sm_ct nk no nl rt ag cost n a i (W % 8) else cost (8 * r + W % 8)) := by
          rw [sm_ct_s, if_pos eL, if_pos hk, eW, nI_clamp hW]
          by_cases z : W / 8 = 0
          · rw [if_pos z, if_pos z]
          · rw [if_neg z, if_neg z]
            have : sm_ce rt ag n W = r := by
              unfold sm_ce
              rw [if_neg z]
              by_cases z1 : W / 8 = 1
              · rw [if_pos z1, m1 z1, nI_clamp (by omega)]
                unfold sm_ro
                rw [er, nI_clamp (by omega)]
              · rw [if_neg z1, ← m2 (by omega)]
                unfold sm_ro
                rw [er, nI_clamp (by omega)]
            rw [this]
        by_cases z : W / 8 = 0
        · have e0 := r0 z
          subst e0
          have hb2 : sm_cap (sm_ct nk no nl rt ag cost r a i (W % 8)) ≤ 241 := sm_cap_le _
          refine nm_r (e' := nI (sm_cap (sm_ct nk no nl rt ag cost r a i L) + 1 + sm_cap (sm_ct nk no nl rt ag cost r a i (W % 8)))) (by rw [show r * 8 + W % 8 = 8 * r + W % 8 by omega, h2 _ hq, nI_add]) (next _ (by omega) ?_)
          rw [ect, if_pos z, sm_cap_add]
        · obtain ⟨z1, z2⟩ := r1 z
          refine nm_r (e' := nI (sm_cap (sm_ct nk no nl rt ag cost n a i L) + 1 + sm_cap (cost (8 * r + W % 8)))) (by rw [show r * 8 + W % 8 = 8 * r + W % 8 by omega, h1 _ (by omega), z2, nI_add]) (next _ (by omega) ?_)
          rw [ect, if_neg z, sm_cap_add]
      · rw [sm_ct_s, if_pos eL, if_neg hk, Nat.add_zero, sm_cap_1]
  have K := key (c - a) 0 (by omega) wk (fun _ _ => rfl) (fun l hl => w0 l hl)
  rw [Nat.add_zero] at K
  exact ⟨_, K⟩
end sm_X
end
section
theorem sm_sd_s {nk : Nat → Int32} (a n : Nat) : sm_sd nk a (n + 1) = sm_st (nk (a + n)) (sm_sd nk a n) := rfl
theorem sm_sd_congr {nk nk' : Nat → Int32} {a : Nat} : ∀ n, (∀ i, a ≤ i → i < a + n → nk' i = nk i) → sm_sd nk' a n = sm_sd nk a n := by
  intro n
  induction n with
  | zero => intro _; rfl
  | succ n ih =>
    intro h
    rw [sm_sd_s, sm_sd_s, ih fun i h1 h2 => h i h1 (by omega), h _ (by omega) (by omega)]
theorem sm_S_congr {g g' : Nat → Nat} {a : Nat} : ∀ n, (∀ i, a ≤ i → i < a + n → g' i = g i) → sm_S g' a n = sm_S g a n := by
  intro n
  induction n with
  | zero => intro _; rfl
  | succ n ih =>
    intro h
    show sm_S g' a n + g' (a + n) = sm_S g a n + g (a + n)
    rw [ih fun i h1 h2 => h i h1 (by omega), h _ (by omega) (by omega)]
theorem sm_B1_mono {k f t nk no nl nbd nk' no' nl' nbd' : Nat → Int32} {u u' b lim lim' l a c : Nat} {P1 P1' : Nat → Prop} {P2 P2' : Nat → Nat → Prop} {dr dr' : Nat → Nat} {Q Q' : Nat → Nat → Nat → Prop}
    (hl8 : l < 8) (hkl : k l = 2) (hu : u ≤ u') (hn : ∀ i, i < u → nk' i = nk i ∧ no' i = no i ∧ nl' i = nl i ∧ nbd' i = nbd i) (hx : ∀ i, u ≤ i → i < u' → ¬ (nbd' i = nI b ∧ nl' i = nI l))
    (h1 : ∀ j, P1 j → P1' j) (h2 : ∀ m j, m < lim → P2 m j → P2' m j) (hl : lim ≤ lim') (hd : ∀ i j, i < 8 → j < 8 → k i = 2 → k j = 2 → dr i < dr j → dr' i < dr' j) (hQ : sm_B1 k f t nk no nl nbd u b P1 P2 lim dr Q l a c → Q' l a c)
    (h : sm_B1 k f t nk no nl nbd u b P1 P2 lim dr Q l a c) : sm_B1 k f t nk' no' nl' nbd' u' b P1' P2' lim' dr' Q' l a c := by
  have hq := hQ h
  obtain ⟨e1, e2, ⟨o1, o2, o3⟩, hD, hS, hC, _⟩ := h
  refine ⟨e1, e2, ⟨o1, by omega, fun i hi => ?_⟩, fun n hn' => ?_, ?_, fun i h1' h2' hk => ?_, hq⟩
  · by_cases z : i < u
    · rw [(hn i z).2.2.1, (hn i z).2.2.2]; exact o3 i z
    · constructor
      · intro w; exact absurd w (hx i (by omega) hi)
      · intro w; omega
  · have := hD n hn'
    rw [(hn (a + n) (by omega)).1, sm_sd_congr n fun i q1 q2 => (hn i (by omega)).1]
    exact this
  · rw [sm_sd_congr (c - a) fun i q1 q2 => (hn i (by omega)).1]; exact hS
  · obtain ⟨n1, n2, _, _⟩ := hn i (by omega)
    rw [n1] at hk
    obtain ⟨W, hW, eW, c0, c1, c2⟩ := hC i h1' h2' hk
    refine ⟨W, hW, n2.trans eW, fun z => ?_, fun z => h1 _ (c1 z), fun z => ?_⟩
    · obtain ⟨k1, k2, k3⟩ := c0 z
      exact ⟨k1, hd _ _ (Nat.mod_lt _ (by decide)) hl8 k1 hkl k2, k3⟩
    · obtain ⟨k1, k2⟩ := c2 z
      exact ⟨by omega, h2 _ _ k1 k2⟩
theorem sm_Bo_mono {k f t nk no nl nbd nk' no' nl' nbd' : Nat → Int32} {u u' b lim lim' : Nat} {P1 P1' : Nat → Prop} {P2 P2' : Nat → Nat → Prop} {dr dr' : Nat → Nat} {Q Q' : Nat → Nat → Nat → Prop}
    (hu : u ≤ u') (hn : ∀ i, i < u → nk' i = nk i ∧ no' i = no i ∧ nl' i = nl i ∧ nbd' i = nbd i) (hx : ∀ l, l < 8 → k l = 2 → ∀ i, u ≤ i → i < u' → ¬ (nbd' i = nI b ∧ nl' i = nI l))
    (h1 : ∀ j, P1 j → P1' j) (h2 : ∀ m j, m < lim → P2 m j → P2' m j) (hl : lim ≤ lim') (hd : ∀ i j, i < 8 → j < 8 → k i = 2 → k j = 2 → dr i < dr j → dr' i < dr' j) (hQ : ∀ l a c, l < 8 → k l = 2 → sm_B1 k f t nk no nl nbd u b P1 P2 lim dr Q l a c → Q' l a c)
    (h : sm_Bo k f t nk no nl nbd u b P1 P2 lim dr Q) : sm_Bo k f t nk' no' nl' nbd' u' b P1' P2' lim' dr' Q' := by
  intro l hl8 hk
  obtain ⟨a, c, hb⟩ := h l hl8 hk
  exact ⟨a, c, sm_B1_mono hl8 hk hu hn (hx l hl8 hk) h1 h2 hl hd (hQ l a c hl8 hk) hb⟩
theorem sm_Ts_mono {A B A' B' : Nat → Prop} {t : Int32} (hA : ∀ j, j < 8 → A j → A' j) (hB : ∀ j, j < 8 → B j → B' j) (h : sm_Ts A B t) : sm_Ts A' B' t :=
  ⟨fun j hj e => hA j hj (h.1 j hj e), fun j hj e => hB j hj (h.2 j hj e)⟩
theorem sm_Tr_mono {A B A' B' : Nat → Prop} {k d c : Nat → Int32} (hA : ∀ j, j < 8 → A j → A' j) (hB : ∀ j, j < 8 → B j → B' j) (h : sm_Tr A B k d c) : sm_Tr A' B' k d c :=
  fun l hl => ⟨sm_Ts_mono hA hB (h l hl).1, sm_Ts_mono hA hB (h l hl).2⟩
/-! what is closed stays, whatever happens elsewhere -/
def sm_lx (sc fc mc r : Nat) : Prop := (1 ≤ r ∧ r < 1 + sc) ∨ (9 ≤ r ∧ r < 9 + mc) ∨ (25 ≤ r ∧ r < 25 + fc) ∨ (31 ≤ r ∧ r < 31 + mc) ∨ (47 ≤ r ∧ r < 47 + fc)
def sm_ly (sc fc mc nb r : Nat) : Prop := (1 ≤ r ∧ r < 1 + sc) ∨ (9 ≤ r ∧ r < 9 + mc) ∨ (25 ≤ r ∧ r < 25 + fc) ∨ (31 ≤ r ∧ r < 31 + nb)
def sm_lz (sc fc mc r : Nat) : Prop := (1 ≤ r ∧ r < 1 + sc) ∨ (9 ≤ r ∧ r < 9 + mc) ∨ (25 ≤ r ∧ r < 25 + fc)
def sm_Eq (sc fc mc uc nb : Nat) (cost rk cost' rk' : Nat → Nat) (kx dx cx fx tx sp fp ff ft rt ag wk nk no nl ky d1 d2 po bo fo nbd kx' dx' cx' fx' tx' sp' fp' ff' ft' rt' ag' wk' nk' no' nl' ky' d1' d2' po' bo' fo' nbd' : Nat → Int32) : Prop :=
  (∀ r, sm_lx sc fc mc r → sm_mx kx' r = sm_mx kx r ∧ sm_mx dx' r = sm_mx dx r ∧ sm_mx cx' r = sm_mx cx r ∧ sm_mx fx' r = sm_mx fx r ∧ sm_mx tx' r = sm_mx tx r) ∧
  (∀ r, sm_ly sc fc mc nb r → sm_mx ky' r = sm_mx ky r ∧ sm_mx d1' r = sm_mx d1 r ∧ sm_mx d2' r = sm_mx d2 r) ∧
  (∀ s, s < sc → sp' s = sp s) ∧ (∀ f, f < fc → fp' f = fp f ∧ ff' f = ff f ∧ ft' f = ft f) ∧ (∀ q, q < mc → rt' q = rt q ∧ ag' q = ag q) ∧
  (∀ i, i < 8 * mc → wk' i = wk i ∧ cost' i = cost i ∧ rk' i = rk i) ∧ (∀ k, k < uc → nk' k = nk k ∧ no' k = no k ∧ nl' k = nl k ∧ nbd' k = nbd k) ∧
  (∀ r, sm_lz sc fc mc r → po' r = po r ∧ bo' r = bo r ∧ fo' r = fo r)
section sm_P
variable {sc fc mc uc nb sc' fc' mc' uc' nb' : Nat} {cost rk cost' rk' : Nat → Nat} {kx dx cx fx tx sp fp ff ft rt ag wk nk no nl ky d1 d2 po bo fo nbd kx' dx' cx' fx' tx' sp' fp' ff' ft' rt' ag' wk' nk' no' nl' ky' d1' d2' po' bo' fo' nbd' : Nat → Int32}
theorem sm_LR_congr {r : Nat} (h1 : sm_mx kx' r = sm_mx kx r) (h2 : sm_mx dx' r = sm_mx dx r) (h3 : sm_mx cx' r = sm_mx cx r) (h4 : sm_mx ky' r = sm_mx ky r) (h5 : sm_mx d1' r = sm_mx d1 r) (h6 : sm_mx d2' r = sm_mx d2 r) (h : sm_LR kx dx cx ky d1 d2 r) : sm_LR kx' dx' cx' ky' d1' d2' r := by
  unfold sm_LR
  rw [h1, h2, h3, h4, h5, h6]
  exact h
theorem sm_Sig_congr (E : sm_Eq sc fc mc uc nb cost rk cost' rk' kx dx cx fx tx sp fp ff ft rt ag wk nk no nl ky d1 d2 po bo fo nbd kx' dx' cx' fx' tx' sp' fp' ff' ft' rt' ag' wk' nk' no' nl' ky' d1' d2' po' bo' fo' nbd') {s : Nat} (hs : s < sc) (h : sm_Sig kx dx cx ky d1 d2 sp po s) : sm_Sig kx' dx' cx' ky' d1' d2' sp' po' s := by
  obtain ⟨E1, E2, E3, E4, E5, E6, E7, E8⟩ := E
  have lx : ∀ p, p < sc → sm_lx sc fc mc (1 + p) := fun p hp => Or.inl ⟨by omega, by omega⟩
  obtain ⟨x1, x2, x3, x4, x5⟩ := E1 (1 + s) (lx s hs)
  obtain ⟨y1, y2, y3⟩ := E2 (1 + s) (Or.inl ⟨by omega, by omega⟩)
  obtain ⟨h1, h2, h3, h4⟩ := h
  refine ⟨sm_LR_congr x1 x2 x3 y1 y2 y3 h1, ?_, ?_, ?_⟩
  · rw [(E8 (1 + s) (Or.inl ⟨by omega, by omega⟩)).1, E3 s hs]; exact h2
  · rw [E3 s hs]
    refine h3.imp id (fun ⟨p, hp, e1, e2⟩ => ⟨p, hp, e1, ?_⟩)
    rw [E3 p (by omega)]; exact e2
  · rw [x1, x2, x3]
    refine sm_Tr_mono (fun j _ hj => hj) (fun j _ ⟨p, hp, e1, e2⟩ => ⟨p, hp, ?_, ?_⟩) h4
    · rw [E3 s hs]; exact e1
    · rw [(E1 (1 + p) (lx p (by omega))).1]; exact e2
theorem sm_Mod_congr (E : sm_Eq sc fc mc uc nb cost rk cost' rk' kx dx cx fx tx sp fp ff ft rt ag wk nk no nl ky d1 d2 po bo fo nbd kx' dx' cx' fx' tx' sp' fp' ff' ft' rt' ag' wk' nk' no' nl' ky' d1' d2' po' bo' fo' nbd') (hm : mc ≤ 16) (hnb : nb ≤ 22) (hro : ∀ m, m < mc → sm_ro rt m < mc) (hu : uc ≤ uc') (hb : nb ≤ nb') (hx : ∀ k, uc ≤ k → k < uc' → ∀ b, b < nb → ¬ nbd' k = nI b) {q : Nat} (hq : q < mc) (h : sm_Mod kx dx cx fx tx ky d1 d2 bo fo rt ag wk nk no nl nbd cost rk uc nb q) : sm_Mod kx' dx' cx' fx' tx' ky' d1' d2' bo' fo' rt' ag' wk' nk' no' nl' nbd' cost' rk' uc' nb' q := by
  obtain ⟨E1, E2, E3, E4, E5, E6, E7, E8⟩ := E
  have lx9 : ∀ p, p < mc → sm_lx sc fc mc (9 + p) := fun p hp => Or.inr (Or.inl ⟨by omega, by omega⟩)
  have lx31 : ∀ p, p < mc → sm_lx sc fc mc (31 + p) := fun p hp => Or.inr (Or.inr (Or.inr (Or.inl ⟨by omega, by omega⟩)))
  obtain ⟨x1, x2, x3, x4, x5⟩ := E1 (9 + q) (lx9 q hq)
  obtain ⟨y1, y2, y3⟩ := E2 (9 + q) (Or.inr (Or.inl ⟨by omega, by omega⟩))
  obtain ⟨z1, z2, z3⟩ := E8 (9 + q) (Or.inr (Or.inl ⟨by omega, by omega⟩))
  obtain ⟨h1, h2, r, hr, e1, e2, h3, h4, h5⟩ := h
  refine ⟨sm_LR_congr x1 x2 x3 y1 y2 y3 h1, ?_, r, hr, ?_, ?_, ?_, fun hne => ?_, fun he => ?_⟩
  · rw [x1, x2, x3]; exact h2
  · rw [(E5 q hq).1]; exact e1
  · rw [(E5 r (by omega)).1]; exact e2
  · rw [x1, (E1 (31 + r) (lx31 r (by omega))).1]; exact h3
  · obtain ⟨g1, m, g2, g3, g4⟩ := h4 hne
    exact ⟨by rw [z2]; exact g1, m, g2, by rw [z3]; exact g3, by rw [(E5 m (by omega)).1]; exact g4⟩
  · obtain ⟨b, hbn, g1, g2, g3, g4⟩ := h5 he
    obtain ⟨w1, w2, w3, w4, w5⟩ := E1 (31 + q) (lx31 q hq)
    obtain ⟨v1, v2, v3⟩ := E2 (31 + b) (Or.inr (Or.inr (Or.inr ⟨by omega, by omega⟩)))
    have hE5 := E5 q hq
    have cQ : ∀ l a c, l < 8 → sm_mx kx (31 + q) l = 2 → sm_B1 (sm_mx kx (31 + q)) (sm_mx fx (31 + q)) (sm_mx tx (31 + q)) nk no nl nbd uc b (sm_PA kx ag q) (sm_P2 kx) q (fun l => rk (8 * q + l)) (sm_CQ nk no rt ag cost q) l a c → sm_CQ nk' no' rt' ag' cost' q l a c := by
      intro l a c hl hk hB
      obtain ⟨_, _, ⟨o1, o2, _⟩, _, _, hC, hQ⟩ := hB
      unfold sm_CQ at hQ ⊢
      rw [(E6 (8 * q + l) (by omega)).2.1, hQ]
      refine (sm_S_congr (c - a) fun i i1 i2 => ?_).symm
      refine congrArg (fun z => 1 + z) ?_
      obtain ⟨n1, n2, _, _⟩ := E7 i (by omega)
      unfold sm_nc
      rw [n1, n2]
      by_cases hk5 : nk i = 5
      · rw [if_pos hk5, if_pos hk5]
        obtain ⟨W, hW, eW, c0, c1, c2⟩ := hC i i1 (by omega) hk5
        rw [eW, nI_clamp hW]
        have ece : sm_ce rt' ag' q W = sm_ce rt ag q W ∧ sm_ce rt ag q W < mc := by
          unfold sm_ce
          by_cases p0 : W / 8 = 0
          · rw [if_pos p0, if_pos p0]; exact ⟨rfl, hq⟩
          · rw [if_neg p0, if_neg p0]
            by_cases p1 : W / 8 = 1
            · rw [if_pos p1, if_pos p1, hE5.2]
              obtain ⟨a', ha', ea', _⟩ := c1 p1
              rw [ea', nI_clamp (by omega)]
              exact ⟨by unfold sm_ro; rw [(E5 a' (by omega)).1], hro a' (by omega)⟩
            · rw [if_neg p1, if_neg p1]
              have := (c2 (by omega)).1
              exact ⟨by unfold sm_ro; rw [(E5 _ (show W / 8 - 2 < mc by omega)).1], hro _ (by omega)⟩
        have hq8 : W % 8 < 8 := Nat.mod_lt _ (by decide)
        rw [ece.1, (E6 _ (show 8 * sm_ce rt ag q W + W % 8 < 8 * mc by have := ece.2; omega)).2.1]
      · rw [if_neg hk5, if_neg hk5]
    refine ⟨b, by omega, ?_, ?_, ?_, fun l hl hk => ?_⟩
    · rw [z2]; exact g1
    · rw [hE5.2, z3]; exact g2
    · rw [w1, w4, w5]
      refine sm_Bo_mono hu E7 (fun l _ _ i i1 i2 z => hx i i1 i2 b hbn z.1) (fun j ⟨a, ha, ea, eb⟩ => ⟨a, ha, by rw [hE5.2]; exact ea, by rw [(E1 (9 + a) (lx9 a (by omega))).1]; exact eb⟩) (fun m j hm' hj => ?_) (Nat.le_refl _) (fun i j hi hj _ _ hij => ?_) cQ g3
      · unfold sm_P2 at hj ⊢
        rw [(E1 (9 + m) (lx9 m (by omega))).1]; exact hj
      · rw [(E6 (8 * q + i) (by omega)).2.2, (E6 (8 * q + j) (by omega)).2.2]; exact hij
    · rw [w1] at hk
      obtain ⟨k1, k2, k3, k4⟩ := g4 l hl hk
      obtain ⟨q1, q2, q3⟩ := E6 (8 * q + l) (by omega)
      have hf : ∀ t, sm_sb d1 fo (9 + q) t = sm_sb d1' fo' (9 + q) t := by
        refine fun t => sm_sb_congr z3 (fun _ _ => g2.imp (fun z => z.2) (fun ⟨a, ha, _, ea⟩ => ⟨9 + a, by omega, ea, ?_⟩)) t
        exact ((E2 (9 + a) (Or.inr (Or.inl ⟨by omega, by omega⟩))).2.1).symm
      rw [q1, q2, q3, w2, w3, v2, v3, ← hf, ← hf]
      exact ⟨k1, k2, k3, k4⟩
theorem sm_Fun_congr (E : sm_Eq sc fc mc uc nb cost rk cost' rk' kx dx cx fx tx sp fp ff ft rt ag wk nk no nl ky d1 d2 po bo fo nbd kx' dx' cx' fx' tx' sp' fp' ff' ft' rt' ag' wk' nk' no' nl' ky' d1' d2' po' bo' fo' nbd') (hf6 : fc ≤ 6) (hs8 : sc ≤ 8) (hm : mc ≤ 16) (hnb : nb ≤ 22) (hu : uc ≤ uc') (hb : nb ≤ nb') (hsc : sc ≤ sc') (hmc : mc ≤ mc') (hx : ∀ k, uc ≤ k → k < uc' → ∀ b, b < nb → ¬ nbd' k = nI b) {f : Nat} (hf : f < fc) (h : sm_Fun kx dx cx fx tx ky d1 d2 po bo fp ff ft nk no nl nbd uc sc mc nb f) : sm_Fun kx' dx' cx' fx' tx' ky' d1' d2' po' bo' fp' ff' ft' nk' no' nl' nbd' uc' sc' mc' nb' f := by
  obtain ⟨E1, E2, E3, E4, E5, E6, E7, E8⟩ := E
  have lx1 : ∀ p, p < sc → sm_lx sc fc mc (1 + p) := fun p hp => Or.inl ⟨by omega, by omega⟩
  have lx9 : ∀ p, p < mc → sm_lx sc fc mc (9 + p) := fun p hp => Or.inr (Or.inl ⟨by omega, by omega⟩)
  obtain ⟨x1, x2, x3, x4, x5⟩ := E1 (25 + f) (Or.inr (Or.inr (Or.inl ⟨by omega, by omega⟩)))
  obtain ⟨w1, w2, w3, w4, w5⟩ := E1 (47 + f) (Or.inr (Or.inr (Or.inr (Or.inr ⟨by omega, by omega⟩))))
  obtain ⟨y1, y2, y3⟩ := E2 (25 + f) (Or.inr (Or.inr (Or.inl ⟨by omega, by omega⟩)))
  obtain ⟨z1, z2, z3⟩ := E8 (25 + f) (Or.inr (Or.inr ⟨by omega, by omega⟩))
  obtain ⟨q1, q2, q3⟩ := E4 f hf
  obtain ⟨h1, h2, p, b, a0, c0, dr, ⟨p1, p2, p3⟩, ⟨b1, b2⟩, ⟨r1, r2, r3, r4⟩, g1, g2, g3, g4, g5, g6⟩ := h
  obtain ⟨v1, v2, v3⟩ := E2 (31 + b) (Or.inr (Or.inr (Or.inr ⟨by omega, by omega⟩)))
  have np := (E1 (1 + p) (lx1 p p1)).1
  have NZ : ∀ j, j < 8 → sm_NZ kx p j → sm_NZ kx' p j := fun j _ hj => by unfold sm_NZ at hj ⊢; rw [np]; exact hj
  refine ⟨sm_LR_congr x1 x2 x3 y1 y2 y3 h1, by rw [x1, w1]; exact h2, p, b, a0, c0, dr, ⟨by omega, by rw [q1]; exact p2, by rw [z1]; exact p3⟩, ⟨by omega, by rw [z2]; exact b2⟩, ⟨by rw [q2]; exact r1, by rw [q3]; exact r2, r3, by omega⟩, fun k hk => ?_, fun k k1 k2 => ?_, by rw [w1]; exact g3, ?_, ?_, fun l hl => ?_⟩
  · by_cases z : k < uc
    · rw [(E7 k z).2.2.2]; exact g1 k z
    · exact ⟨fun w => absurd w (hx k (by omega) hk b b1), fun w => by omega⟩
  · rw [(E7 k (by omega)).2.2.1, w1]; exact g2 k k1 k2
  · rw [w1, w4, w5]
    refine sm_Bo_mono hu E7 (fun l _ _ i i1 i2 z => hx i i1 i2 b b1 z.1) (fun j hj => ?_) (fun m j hm' hj => ?_) hmc (fun i j _ _ _ _ h => h) (fun _ _ _ _ _ _ => trivial) g4
    · unfold sm_O2 at hj ⊢; rw [np]; exact hj
    · unfold sm_P2 at hj ⊢; rw [(E1 (9 + m) (lx9 m hm')).1]; exact hj
  · rw [x1, x2, x3]; exact sm_Tr_mono (fun _ _ h => h) NZ g5
  · rw [w1] at hl
    obtain ⟨k1, k2, k3, k4⟩ := g6 l hl
    rw [v2, v3, w2, w3]
    exact ⟨k1, k2, sm_Ts_mono (fun _ _ h => h) NZ k3, sm_Ts_mono (fun _ _ h => h) NZ k4⟩
end sm_P
end
section
def i_Rel (_ : Nat) (u : SX) (v : SY) : Prop := ∃ (uc : Nat) (cost rk : Nat → Nat), ∃ (ML SL FL RM sc fc mc us nb : Nat) (xa xb dk dp df pl pd pc pf cd xfr xht ydp yfr yht yst yfa : Int32) (kx dx cx fx tx sp fp ff ft rt ag wk nk no nl cs cn cb fM fA fI fB fP fF vx bx md mo ky d1 d2 po bo fo nbd ck rA rN rD rC rO rX vY bY : Nat → Int32), (u = (xa, xb, nI ML, nI SL, nI FL, nI RM, nI sc, nI fc, nI mc, nI us, dk, dp, df, pl, pd, pc, pf, cd, xfr, xht, kx, dx, cx, fx, tx, sp, fp, ff, ft, rt, ag, wk, nk, no, nl, cs, cn, cb, fM, fA, fI, fB, fP, fF, vx, bx) ∧ v = (nI RM, nI nb, nI us, dk, pl, pd, pc, ydp, yfr, yht, yst, yfa, md, mo, ky, d1, d2, po, bo, fo, nk, no, nbd, nl, cn, cb, ck, rA, rN, rD, rC, rO, rX, vY, bY)) ∧ sm_Num ML SL FL RM sc fc mc nb md mo ∧ sm_CL sc fc mc uc nb cost rk kx dx cx fx tx sp fp ff ft rt ag wk nk no nl ky d1 d2 po bo fo nbd ∧ sm_DR kx dx cx fx tx sp nk no nl ky d1 d2 po nbd cs sc mc uc us nb RM dk dp df pl pd pc pf cd
section sm_R
variable {ML SL FL RM sc fc mc us nb : Nat} {xa xb dk dp df pl pd pc pf cd xfr xht ydp yfr yht yst yfa : Int32} {kx dx cx fx tx sp fp ff ft rt ag wk nk no nl cs cn cb fM fA fI fB fP fF vx bx md mo ky d1 d2 po bo fo nbd ck rA rN rD rC rO rX vY bY : Nat → Int32}
theorem sm_in {k uc : Nat} {cost rk : Nat → Nat} (hN : sm_Num ML SL FL RM sc fc mc nb md mo) (hC : sm_CL sc fc mc uc nb cost rk kx dx cx fx tx sp fp ff ft rt ag wk nk no nl ky d1 d2 po bo fo nbd) (hD : sm_DR kx dx cx fx tx sp nk no nl ky d1 d2 po nbd cs sc mc uc us nb RM dk dp df pl pd pc pf cd) : i_Rel k (xa, xb, nI ML, nI SL, nI FL, nI RM, nI sc, nI fc, nI mc, nI us, dk, dp, df, pl, pd, pc, pf, cd, xfr, xht, kx, dx, cx, fx, tx, sp, fp, ff, ft, rt, ag, wk, nk, no, nl, cs, cn, cb, fM, fA, fI, fB, fP, fF, vx, bx) (nI RM, nI nb, nI us, dk, pl, pd, pc, ydp, yfr, yht, yst, yfa, md, mo, ky, d1, d2, po, bo, fo, nk, no, nbd, nl, cn, cb, ck, rA, rN, rD, rC, rO, rX, vY, bY) := ⟨uc, cost, rk, ML, SL, FL, RM, sc, fc, mc, us, nb, xa, xb, dk, dp, df, pl, pd, pc, pf, cd, xfr, xht, ydp, yfr, yht, yst, yfa, kx, dx, cx, fx, tx, sp, fp, ff, ft, rt, ag, wk, nk, no, nl, cs, cn, cb, fM, fA, fI, fB, fP, fF, vx, bx, md, mo, ky, d1, d2, po, bo, fo, nbd, ck, rA, rN, rD, rC, rO, rX, vY, bY, ⟨rfl, rfl⟩, hN, hC, hD⟩
end sm_R
theorem sm_e0 {P : SX → SY → Prop} {u u' : SX} {v v' : SY} {A B C : Prop} (h : A → B → C → P u' v') (I : (u = u' ∧ v = v') ∧ A ∧ B ∧ C) : P u v := by
  obtain ⟨⟨rfl, rfl⟩, a, b, c⟩ := I
  exact h a b c
theorem sm_el {P : SX → SY → Prop} (h : ∀ (uc : Nat) (cost rk : Nat → Nat), ∀ (ML SL FL RM sc fc mc us nb : Nat) (xa xb dk dp df pl pd pc pf cd xfr xht ydp yfr yht yst yfa : Int32) (kx dx cx fx tx sp fp ff ft rt ag wk nk no nl cs cn cb fM fA fI fB fP fF vx bx md mo ky d1 d2 po bo fo nbd ck rA rN rD rC rO rX vY bY : Nat → Int32), sm_Num ML SL FL RM sc fc mc nb md mo → sm_CL sc fc mc uc nb cost rk kx dx cx fx tx sp fp ff ft rt ag wk nk no nl ky d1 d2 po bo fo nbd → sm_DR kx dx cx fx tx sp nk no nl ky d1 d2 po nbd cs sc mc uc us nb RM dk dp df pl pd pc pf cd → P (xa, xb, nI ML, nI SL, nI FL, nI RM, nI sc, nI fc, nI mc, nI us, dk, dp, df, pl, pd, pc, pf, cd, xfr, xht, kx, dx, cx, fx, tx, sp, fp, ff, ft, rt, ag, wk, nk, no, nl, cs, cn, cb, fM, fA, fI, fB, fP, fF, vx, bx) (nI RM, nI nb, nI us, dk, pl, pd, pc, ydp, yfr, yht, yst, yfa, md, mo, ky, d1, d2, po, bo, fo, nk, no, nbd, nl, cn, cb, ck, rA, rN, rD, rC, rO, rX, vY, bY)) {k : Nat} {u : SX} {v : SY} (I : i_Rel k u v) : P u v :=
  I.elim fun uc I => I.elim fun cost I => I.elim fun rk I => I.elim fun ML I => I.elim fun SL I => I.elim fun FL I => I.elim fun RM I => I.elim fun sc I => I.elim fun fc I => I.elim fun mc I => I.elim fun us I => I.elim fun nb I => I.elim fun xa I => I.elim fun xb I => I.elim fun dk I => I.elim fun dp I => I.elim fun df I => I.elim fun pl I => I.elim fun pd I => I.elim fun pc I => I.elim fun pf I => I.elim fun cd I => I.elim fun xfr I => I.elim fun xht I => I.elim fun ydp I => I.elim fun yfr I => I.elim fun yht I => I.elim fun yst I => I.elim fun yfa I => I.elim fun kx I => I.elim fun dx I => I.elim fun cx I => I.elim fun fx I => I.elim fun tx I => I.elim fun sp I => I.elim fun fp I => I.elim fun ff I => I.elim fun ft I => I.elim fun rt I => I.elim fun ag I => I.elim fun wk I => I.elim fun nk I => I.elim fun no I => I.elim fun nl I => I.elim fun cs I => I.elim fun cn I => I.elim fun cb I => I.elim fun fM I => I.elim fun fA I => I.elim fun fI I => I.elim fun fB I => I.elim fun fP I => I.elim fun fF I => I.elim fun vx I => I.elim fun bx I => I.elim fun md I => I.elim fun mo I => I.elim fun ky I => I.elim fun d1 I => I.elim fun d2 I => I.elim fun po I => I.elim fun bo I => I.elim fun fo I => I.elim fun nbd I => I.elim fun ck I => I.elim fun rA I => I.elim fun rN I => I.elim fun rD I => I.elim fun rC I => I.elim fun rO I => I.elim fun rX I => I.elim fun vY I => I.elim fun bY I => sm_e0 (h uc cost rk ML SL FL RM sc fc mc us nb xa xb dk dp df pl pd pc pf cd xfr xht ydp yfr yht yst yfa kx dx cx fx tx sp fp ff ft rt ag wk nk no nl cs cn cb fM fA fI fB fP fF vx bx md mo ky d1 d2 po bo fo nbd ck rA rN rD rC rO rX vY bY) I
theorem i_up {k : Nat} {u : SX} {v : SY} (h : i_Rel k u v) : i_Rel (k + 5) u v := h
end
section
theorem sm_c8 (x : Int32) : (x < 0 ∧ ∀ j, j < 8 → x ≠ nI j) ∨ (¬ x < 0 ∧ 7 < x ∧ ¬ x ≤ 7 ∧ ∀ j, j < 8 → x ≠ nI j) ∨ ∃ j : Nat, j < 8 ∧ x = nI j ∧ ¬ nI j < 0 ∧ ¬ (7 : Int32) < nI j ∧ nI j ≤ 7 := by
  by_cases h : x < 0
  · exact Or.inl ⟨h, fun j hj e => by subst e; exact nI_pos (by omega) h⟩
  · obtain ⟨k, hk, rfl⟩ := nI_of h
    by_cases h8 : k < 8
    · exact Or.inr (Or.inr ⟨k, h8, rfl, h, nI_nlt (a := 7) (by omega) (by decide), nI_le (b := 7) (by omega) (by decide)⟩)
    · exact Or.inr (Or.inl ⟨h, nI_lt (a := 7) (by omega) hk, nI_ge (a := 7) (by omega) hk, fun j hj e => by have := sm_inj e hk (by omega); omega⟩)
section sm_X
variable {xa xb xml xsl xfl xrm xsc xfc xmc xus dk dp df pl pd pc pf cd xfr xht : Int32} {kx dx cx fx tx sp fp ff ft rt ag wk nk no nl cs cn cb fM fA fI fB fP fF vx bx : Nat → Int32}
theorem sm_xin0 {post : Int32 → Prop} {x : Int32} (h : ∀ j, j < 8 → x ≠ nI j) (hp : post 0) : wpX_inEight post (xa, xb, xml, xsl, xfl, xrm, xsc, xfc, xmc, xus, dk, dp, df, pl, pd, pc, pf, cd, xfr, xht, kx, dx, cx, fx, tx, sp, fp, ff, ft, rt, ag, wk, nk, no, nl, cs, cn, cb, fM, fA, fI, fB, fP, fF, vx, bx) x := sm_xin (fun _ => hp) (fun j hj e => absurd e (h j hj))
theorem sm_xin1 {post : Int32 → Prop} {j : Nat} (h : j < 8) (hp : post 1) : wpX_inEight post (xa, xb, xml, xsl, xfl, xrm, xsc, xfc, xmc, xus, dk, dp, df, pl, pd, pc, pf, cd, xfr, xht, kx, dx, cx, fx, tx, sp, fp, ff, ft, rt, ag, wk, nk, no, nl, cs, cn, cb, fM, fA, fI, fB, fP, fF, vx, bx) (nI j) := sm_xin (fun hn => absurd rfl (hn j h)) (fun _ _ _ => hp)
theorem sm_xex0 {post : Int32 → Prop} {x : Int32} {c : Nat} (hc : c < 2 ^ 31) (h : ∀ j, j < c → x ≠ nI j) (hp : post 0) : wpX_exists post (xa, xb, xml, xsl, xfl, xrm, xsc, xfc, xmc, xus, dk, dp, df, pl, pd, pc, pf, cd, xfr, xht, kx, dx, cx, fx, tx, sp, fp, ff, ft, rt, ag, wk, nk, no, nl, cs, cn, cb, fM, fA, fI, fB, fP, fF, vx, bx) x (nI c) := sm_xex hc (fun _ => hp) (fun j hj e => absurd e (h j hj))
theorem sm_xex1 {post : Int32 → Prop} {j c : Nat} (hc : c < 2 ^ 31) (h : j < c) (hp : post 1) : wpX_exists post (xa, xb, xml, xsl, xfl, xrm, xsc, xfc, xmc, xus, dk, dp, df, pl, pd, pc, pf, cd, xfr, xht, kx, dx, cx, fx, tx, sp, fp, ff, ft, rt, ag, wk, nk, no, nl, cs, cn, cb, fM, fA, fI, fB, fP, fF, vx, bx) (nI j) (nI c) := sm_xex hc (fun hn => absurd rfl (hn j h)) (fun _ _ _ => hp)
theorem sm_xfs0 {post : Int32 → Prop} {x : Int32} {sc : Nat} (hs : sc ≤ 8) (h0 : (∀ j, j < sc → x ≠ nI j) → post (-1)) (h1 : ∀ j, j < sc → x = nI j → post (nI (1 + j))) : wpX_faceSlot post (xa, xb, xml, xsl, xfl, xrm, nI sc, xfc, xmc, xus, dk, dp, df, pl, pd, pc, pf, cd, xfr, xht, kx, dx, cx, fx, tx, sp, fp, ff, ft, rt, ag, wk, nk, no, nl, cs, cn, cb, fM, fA, fI, fB, fP, fF, vx, bx) 0 x := by
  refine br_f (by decide) (br_t rfl (sm_xex (by omega) (fun hn => br_t rfl ?_) (fun j hj e => br_f (by decide) ?_)))
  · show wX_faceSlot_40 post 0 x xa xb xml xsl xfl xrm (nI sc) xfc xmc xus dk dp df pl pd pc pf cd xfr xht kx dx cx fx tx sp fp ff ft rt ag wk nk no nl cs cn cb fM fA fI fB fP fF vx bx
    exact br_f (by decide) (br_f (by decide) (h0 hn))
  · subst e
    have := h1 j hj rfl
    rw [← sm_l1] at this
    exact this
theorem sm_xfs2 {post : Int32 → Prop} {x : Int32} {fc : Nat} (hs : fc ≤ 6) (h0 : (∀ j, j < fc → x ≠ nI j) → post (-1)) (h1 : ∀ j, j < fc → x = nI j → post (nI (25 + j))) : wpX_faceSlot post (xa, xb, xml, xsl, xfl, xrm, xsc, nI fc, xmc, xus, dk, dp, df, pl, pd, pc, pf, cd, xfr, xht, kx, dx, cx, fx, tx, sp, fp, ff, ft, rt, ag, wk, nk, no, nl, cs, cn, cb, fM, fA, fI, fB, fP, fF, vx, bx) 2 x := by
  refine br_f (by decide) (br_f (by decide) ?_)
  show wX_faceSlot_40 post 2 x xa xb xml xsl xfl xrm xsc (nI fc) xmc xus dk dp df pl pd pc pf cd xfr xht kx dx cx fx tx sp fp ff ft rt ag wk nk no nl cs cn cb fM fA fI fB fP fF vx bx
  refine br_f (by decide) (br_t rfl (sm_xex (by omega) (fun hn => br_t rfl (h0 hn)) (fun j hj e => br_f (by decide) ?_)))
  subst e
  have := h1 j hj rfl
  rw [← sm_l25] at this
  exact this
theorem sm_xfsn {post : Int32 → Prop} {t x : Int32} (h3 : ¬ t = 3) (h0 : ¬ t = 0) (h1 : ¬ t = 1) (h2 : ¬ t = 2) (h : post (-1)) : wpX_faceSlot post (xa, xb, xml, xsl, xfl, xrm, xsc, xfc, xmc, xus, dk, dp, df, pl, pd, pc, pf, cd, xfr, xht, kx, dx, cx, fx, tx, sp, fp, ff, ft, rt, ag, wk, nk, no, nl, cs, cn, cb, fM, fA, fI, fB, fP, fF, vx, bx) t x :=
  br_f h3 (br_f h0 (br_f h1 (br_f h2 h)))
end sm_X
section sm_Y
variable {yrm ynb yus ydk ypl ypd ypc ydp yfr yht yst yfa : Int32} {md mo ky d1 d2 po bo fo ynk yno nbd ynl ycn ycb ck rA rN rD rC rO rX vY bY : Nat → Int32}
theorem sm_yfn {post : Int32 → Prop} {t x : Int32} (h3 : ¬ t = 3) (h0 : ¬ t = 0) (h1 : ¬ t = 1) (h2 : ¬ t = 2) (h : post (-1)) : wpY_face post (yrm, ynb, yus, ydk, ypl, ypd, ypc, ydp, yfr, yht, yst, yfa, md, mo, ky, d1, d2, po, bo, fo, ynk, yno, nbd, ynl, ycn, ycb, ck, rA, rN, rD, rC, rO, rX, vY, bY) t x := by
  refine br_f h3 ?_
  by_cases z : t < 0
  · exact br_t z h
  · obtain ⟨k, hk, rfl⟩ := nI_of z
    refine br_f z (br_t (nI_lt (a := 2) ?_ hk) h)
    have : k ≠ 0 := fun e => h0 (by rw [e]; rfl)
    have : k ≠ 1 := fun e => h1 (by rw [e]; rfl)
    have : k ≠ 2 := fun e => h2 (by rw [e]; rfl)
    omega
end sm_Y
section sm_XY
variable {xa xb xml xsl xfl xrm xsc xfc xmc xus dk dp df pl pd pc pf cd xfr xht : Int32} {kx dx cx fx tx sp fp ff ft rt ag wk nk no nl cs cn cb fM fA fI fB fP fF vx bx : Nat → Int32}
variable {yrm ynb yus ydk ypl ypd ypc ydp yfr yht yst yfa : Int32} {md mo ky d1 d2 po bo fo ynk yno nbd ynl ycn ycb ck rA rN rD rC rO rX vY bY : Nat → Int32}
theorem sm_tyn {v1 v2 v3 v4 : Int32} (hX : ∀ post : Int32 → Prop, post (-1) → wpX_faceSlot post (xa, xb, xml, xsl, xfl, xrm, xsc, xfc, xmc, xus, dk, dp, df, pl, pd, pc, pf, cd, xfr, xht, kx, dx, cx, fx, tx, sp, fp, ff, ft, rt, ag, wk, nk, no, nl, cs, cn, cb, fM, fA, fI, fB, fP, fF, vx, bx) v1 v2) (hY : ∀ post : Int32 → Prop, post (-1) → wpY_face post (yrm, ynb, yus, ydk, ypl, ypd, ypc, ydp, yfr, yht, yst, yfa, md, mo, ky, d1, d2, po, bo, fo, ynk, yno, nbd, ynl, ycn, ycb, ck, rA, rN, rD, rC, rO, rX, vY, bY) v1 v2) :
    ∃ c : Int32, (∀ post : Int32 → Prop, post c → wpX_typeOf post (xa, xb, xml, xsl, xfl, xrm, xsc, xfc, xmc, xus, dk, dp, df, pl, pd, pc, pf, cd, xfr, xht, kx, dx, cx, fx, tx, sp, fp, ff, ft, rt, ag, wk, nk, no, nl, cs, cn, cb, fM, fA, fI, fB, fP, fF, vx, bx) v1 v2 v3 v4) ∧ (∀ post : Int32 → Prop, post c → wpY_typeOf post (yrm, ynb, yus, ydk, ypl, ypd, ypc, ydp, yfr, yht, yst, yfa, md, mo, ky, d1, d2, po, bo, fo, ynk, yno, nbd, ynl, ycn, ycb, ck, rA, rN, rD, rC, rO, rX, vY, bY) v1 v2 v3 v4) := by
  unfold wpX_typeOf wpY_typeOf
  exact ⟨-3, fun post h => hX _ (br_t sm_n1lt h), fun post h => hY _ (br_t sm_n1lt h)⟩
theorem sm_tyo {v1 v2 v3 v4 : Int32} {r : Nat} (hr : r < 53) (L : sm_LR kx dx cx ky d1 d2 r) (hX : ∀ post : Int32 → Prop, post (nI r) → wpX_faceSlot post (xa, xb, xml, xsl, xfl, xrm, xsc, xfc, xmc, xus, dk, dp, df, pl, pd, pc, pf, cd, xfr, xht, kx, dx, cx, fx, tx, sp, fp, ff, ft, rt, ag, wk, nk, no, nl, cs, cn, cb, fM, fA, fI, fB, fP, fF, vx, bx) v1 v2) (hY : ∀ post : Int32 → Prop, post (nI r) → wpY_face post (yrm, ynb, yus, ydk, ypl, ypd, ypc, ydp, yfr, yht, yst, yfa, md, mo, ky, d1, d2, po, bo, fo, ynk, yno, nbd, ynl, ycn, ycb, ck, rA, rN, rD, rC, rO, rX, vY, bY) v1 v2) :
    ∃ c : Int32, (∀ post : Int32 → Prop, post c → wpX_typeOf post (xa, xb, xml, xsl, xfl, xrm, xsc, xfc, xmc, xus, dk, dp, df, pl, pd, pc, pf, cd, xfr, xht, kx, dx, cx, fx, tx, sp, fp, ff, ft, rt, ag, wk, nk, no, nl, cs, cn, cb, fM, fA, fI, fB, fP, fF, vx, bx) v1 v2 v3 v4) ∧ (∀ post : Int32 → Prop, post c → wpY_typeOf post (yrm, ynb, yus, ydk, ypl, ypd, ypc, ydp, yfr, yht, yst, yfa, md, mo, ky, d1, d2, po, bo, fo, ynk, yno, nbd, ynl, ycn, ycb, ck, rA, rN, rD, rC, rO, rX, vY, bY) v1 v2 v3 v4) := by
  have n0 : ¬ nI r < 0 := nI_pos (by omega)
  rcases sm_c8 v3 with ⟨a, b⟩ | ⟨a, b, c, d⟩ | ⟨l, hl, rfl, a, b, c⟩
  · unfold wpX_typeOf wpY_typeOf
    exact ⟨-3, fun post h => hX _ (br_f n0 (sm_xin0 b (br_t rfl h))), fun post h => hY _ (br_f n0 (br_t a h))⟩
  · unfold wpX_typeOf wpY_typeOf
    exact ⟨-3, fun post h => hX _ (br_f n0 (sm_xin0 d (br_t rfl h))), fun post h => hY _ (br_f n0 (br_f a (br_t b h)))⟩
  · have i1 : vp_in (nI (r * 8 + l)) 424 := vp_in_nI (by omega) (by omega)
    have i2 : vp_in (nI (8 * r + l)) 424 := vp_in_nI (by omega) (by omega)
    have c1 : ∀ A : Nat → Int32, A (nI (r * 8 + l)).toNatClampNeg = sm_mx A r l := fun A => by rw [nI_clamp (by omega)]; exact sm_mx1 hl
    have c2 : ∀ A : Nat → Int32, A (nI (8 * r + l)).toNatClampNeg = sm_mx A r l := fun A => by rw [nI_clamp (by omega)]; exact sm_mx2 hl
    have XG : ∀ post : Int32 → Prop, ((sm_mx kx r l = 0 → post (-3)) ∧ (¬ sm_mx kx r l = 0 → ((v4 = 0 → post (sm_mx dx r l)) ∧ (¬ v4 = 0 → ((v4 = 1 → ((sm_mx kx r l = 2 → post (sm_mx cx r l)) ∧ (¬ sm_mx kx r l = 2 → post (-3)))) ∧ (¬ v4 = 1 → post (-3))))))) → wpX_typeOf post (xa, xb, xml, xsl, xfl, xrm, xsc, xfc, xmc, xus, dk, dp, df, pl, pd, pc, pf, cd, xfr, xht, kx, dx, cx, fx, tx, sp, fp, ff, ft, rt, ag, wk, nk, no, nl, cs, cn, cb, fM, fA, fI, fB, fP, fF, vx, bx) v1 v2 (nI l) v4 := by
      intro post h
      unfold wpX_typeOf
      refine hX _ (br_f n0 (sm_xin1 hl (br_f (by decide) (nm_r (sm_8r r l) ⟨i1, ?_⟩))))
      rw [c1 kx, c1 dx, c1 cx]
      exact br_c (fun e => h.1 e) (fun e => br_c (fun e1 => ⟨i1, (h.2 e).1 e1⟩) (fun e1 => br_c (fun e2 => ⟨i1, br_c (fun e3 => ⟨i1, (((h.2 e).2 e1).1 e2).1 e3⟩) (fun e3 => (((h.2 e).2 e1).1 e2).2 e3)⟩) (fun e2 => ((h.2 e).2 e1).2 e2)))
    have YG : ∀ post : Int32 → Prop, ((v4 < 0 → post (-3)) ∧ (¬ v4 < 0 → ((1 < v4 → post (-3)) ∧ (¬ 1 < v4 → ((sm_mx ky r l = 0 → post (-3)) ∧ (¬ sm_mx ky r l = 0 → ((v4 = 0 → post (sm_mx d1 r l)) ∧ (¬ v4 = 0 → post (sm_mx d2 r l))))))))) → wpY_typeOf post (yrm, ynb, yus, ydk, ypl, ypd, ypc, ydp, yfr, yht, yst, yfa, md, mo, ky, d1, d2, po, bo, fo, ynk, yno, nbd, ynl, ycn, ycb, ck, rA, rN, rD, rC, rO, rX, vY, bY) v1 v2 (nI l) v4 := by
      intro post h
      unfold wpY_typeOf
      refine hY _ (br_f n0 (br_f a (br_f b (br_c (fun e => h.1 e) (fun e => br_c (fun e1 => (h.2 e).1 e1) (fun e1 => ?_))))))
      rw [sm_r8, c2 ky, c2 d1, c2 d2]
      exact ⟨i2, br_c (fun e2 => ((h.2 e).2 e1).1 e2) (fun e2 => br_c (fun e3 => ⟨i2, (((h.2 e).2 e1).2 e2).1 e3⟩) (fun e3 => ⟨i2, (((h.2 e).2 e1).2 e2).2 e3⟩))⟩
    obtain ⟨ek, ed⟩ := L l
    by_cases h0 : v4 = 0
    · subst h0
      have p1 : ¬ (0 : Int32) < 0 := by decide
      have p2 : ¬ (1 : Int32) < 0 := by decide
      by_cases z : sm_mx kx r l = 0
      · exact ⟨-3, fun post h => XG post (br_t z h), fun post h => YG post (br_f p1 (br_f p2 (br_t (ek.trans z) h)))⟩
      · have z' : ¬ sm_mx ky r l = 0 := by rw [ek]; exact z
        refine ⟨sm_mx dx r l, fun post h => XG post (br_f z (br_t rfl h)), fun post h => YG post (br_f p1 (br_f p2 (br_f z' (br_t rfl ?_))))⟩
        rcases ed with e | ⟨_, _, e, _⟩ | ⟨_, e, _⟩
        · exact absurd e z
        · rw [e]; exact h
        · rw [e]; exact h
    · by_cases h1 : v4 = 1
      · subst h1
        have p1 : ¬ (1 : Int32) < 0 := by decide
        have p2 : ¬ (1 : Int32) < 1 := by decide
        rcases ed with e | ⟨e1, _, _, e4⟩ | ⟨e1, _, e4⟩
        · exact ⟨-3, fun post h => XG post (br_t e h), fun post h => YG post (br_f p1 (br_f p2 (br_t (ek.trans e) h)))⟩
        · have z : ¬ sm_mx kx r l = 0 := by rw [e1]; decide
          have z' : ¬ sm_mx ky r l = 0 := by rw [ek]; exact z
          have z2 : ¬ sm_mx kx r l = 2 := by rw [e1]; decide
          exact ⟨-3, fun post h => XG post (br_f z (br_f h0 (br_t rfl (br_f z2 h)))), fun post h => YG post (br_f p1 (br_f p2 (br_f z' (br_f h0 (by rw [e4]; exact h)))))⟩
        · have z : ¬ sm_mx kx r l = 0 := by rw [e1]; decide
          have z' : ¬ sm_mx ky r l = 0 := by rw [ek]; exact z
          exact ⟨sm_mx cx r l, fun post h => XG post (br_f z (br_f h0 (br_t rfl (br_t e1 h)))), fun post h => YG post (br_f p1 (br_f p2 (br_f z' (br_f h0 (by rw [e4]; exact h)))))⟩
      · refine ⟨-3, fun post h => XG post (br_c (fun _ => h) (fun _ => br_f h0 (br_f h1 h))), fun post h => YG post ?_⟩
        by_cases n : v4 < 0
        · exact br_t n h
        · obtain ⟨q, hq, rfl⟩ := nI_of n
          refine br_f n (br_t (nI_lt (a := 1) ?_ hq) h)
          have : q ≠ 0 := fun e => h0 (by rw [e]; rfl)
          have : q ≠ 1 := fun e => h1 (by rw [e]; rfl)
          omega
end sm_XY
theorem i_vc_read {k : Nat} {u : SX} {v : SY} (I : i_Rel k u v) (hk : k + 5 ≤ 2564) (v1 : Int32) (v2 : Int32) : wpX_read (fun r => wpY_read (fun r' => r' = r ∧ i_Rel (k + 5) u v) v v1 v2) u v1 v2 := by
  refine sm_el (P := fun u v => i_Rel (k + 5) u v → wpX_read (fun r => wpY_read (fun r' => r' = r ∧ i_Rel (k + 5) u v) v v1 v2) u v1 v2) ?_ I (i_up I)
  intro uc cost rk ML SL FL RM sc fc mc us nb xa xb dk dp df pl pd pc pf cd xfr xht ydp yfr yht yst yfa kx dx cx fx tx sp fp ff ft rt ag wk nk no nl cs cn cb fM fA fI fB fP fF vx bx md mo ky d1 d2 po bo fo nbd ck rA rN rD rC rO rX vY bY hN hC hD J
  unfold wpX_read
  rcases sm_c8 v1 with ⟨a, b⟩ | ⟨a, b, c, d⟩ | ⟨j, hj, rfl, a, b, c⟩
  · exact sm_xin0 b (br_t rfl (br_t a ⟨rfl, J⟩))
  · exact sm_xin0 d (br_t rfl (br_f a (br_t b ⟨rfl, J⟩)))
  · have i : vp_in (nI j) 8 := vp_in_nI hj (by omega)
    refine sm_xin1 hj (br_f (by decide) (br_c (fun e => br_f a (br_f b (br_t e ⟨rfl, J⟩))) (fun e => br_c (fun e1 => br_c (fun e2 => ⟨i, br_f a (br_f b (br_f e (br_t e1 (br_t e2 ⟨i, rfl, J⟩))))⟩) (fun e2 => ⟨i, br_f a (br_f b (br_f e (br_t e1 (br_f e2 ⟨i, rfl, J⟩))))⟩)) (fun e1 => br_f a (br_f b (br_f e (br_f e1 ⟨rfl, J⟩)))))))
theorem i_vc_load {k : Nat} {u : SX} {v : SY} (I : i_Rel k u v) (hk : k + 5 ≤ 2564) (v1 : Int32) (v2 : Int32) : wpX_load (fun r u' => wpY_load (fun r' v' => r' = r ∧ i_Rel (k + 5) u' v') v v1 v2) u v1 v2 := by
  refine sm_el (P := fun u v => i_Rel (k + 5) u v → wpX_load (fun r u' => wpY_load (fun r' v' => r' = r ∧ i_Rel (k + 5) u' v') v v1 v2) u v1 v2) ?_ I (i_up I)
  intro uc cost rk ML SL FL RM sc fc mc us nb xa xb dk dp df pl pd pc pf cd xfr xht ydp yfr yht yst yfa kx dx cx fx tx sp fp ff ft rt ag wk nk no nl cs cn cb fM fA fI fB fP fF vx bx md mo ky d1 d2 po bo fo nbd ck rA rN rD rC rO rX vY bY hN hC hD J
  unfold wpX_load
  rcases sm_c8 v1 with ⟨a, b⟩ | ⟨a, b, c, d⟩ | ⟨j, hj, rfl, a, b, c⟩
  · exact sm_xin0 b (br_t rfl (br_t a ⟨rfl, J⟩))
  · exact sm_xin0 d (br_t rfl (br_f a (br_f c ⟨rfl, J⟩)))
  · have i : vp_in (nI j) 8 := vp_in_nI hj (by omega)
    exact sm_xin1 hj (br_f (by decide) ⟨i, nm_e ⟨i, nm_e (br_f a (br_t c ⟨i, nm_e ⟨i, nm_e ⟨rfl, sm_in hN hC hD⟩⟩⟩))⟩⟩)
end
section
theorem sm_exq (x : Int32) (c : Nat) : (∃ j, j < c ∧ x = nI j) ∨ ∀ j, j < c → x ≠ nI j := by
  by_cases h : ∃ j, j < c ∧ x = nI j
  · exact Or.inl h
  · exact Or.inr fun j hj e => h ⟨j, hj, e⟩
theorem i_vc_typeOf {k : Nat} {u : SX} {v : SY} (I : i_Rel k u v) (hk : k + 5 ≤ 2564) (v1 : Int32) (v2 : Int32) (v3 : Int32) (v4 : Int32) : wpX_typeOf (fun r => wpY_typeOf (fun r' => r' = r ∧ i_Rel (k + 5) u v) v v1 v2 v3 v4) u v1 v2 v3 v4 := by
  refine sm_el (P := fun u v => i_Rel (k + 5) u v → wpX_typeOf (fun r => wpY_typeOf (fun r' => r' = r ∧ i_Rel (k + 5) u v) v v1 v2 v3 v4) u v1 v2 v3 v4) ?_ I (i_up I)
  intro uc cost rk ML SL FL RM sc fc mc us nb xa xb dk dp df pl pd pc pf cd xfr xht ydp yfr yht yst yfa kx dx cx fx tx sp fp ff ft rt ag wk nk no nl cs cn cb fM fA fI fB fP fF vx bx md mo ky d1 d2 po bo fo nbd ck rA rN rD rC rO rX vY bY hN hC hD J
  obtain ⟨⟨n1, n2, n3, n4, n5, n6, n7⟩, ⟨hsc, hmc, hfc, hnb⟩, ⟨m0, m1, m2⟩, _⟩ := hN
  obtain ⟨_, _, Sg, Md, Fn⟩ := hC
  have K : ∃ c : Int32, (∀ post : Int32 → Prop, post c → wpX_typeOf post (xa, xb, nI ML, nI SL, nI FL, nI RM, nI sc, nI fc, nI mc, nI us, dk, dp, df, pl, pd, pc, pf, cd, xfr, xht, kx, dx, cx, fx, tx, sp, fp, ff, ft, rt, ag, wk, nk, no, nl, cs, cn, cb, fM, fA, fI, fB, fP, fF, vx, bx) v1 v2 v3 v4) ∧ (∀ post : Int32 → Prop, post c → wpY_typeOf post (nI RM, nI nb, nI us, dk, pl, pd, pc, ydp, yfr, yht, yst, yfa, md, mo, ky, d1, d2, po, bo, fo, nk, no, nbd, nl, cn, cb, ck, rA, rN, rD, rC, rO, rX, vY, bY) v1 v2 v3 v4) := by
    by_cases t3 : v1 = 3
    · subst t3
      rcases hD.2.2 with ⟨rfl, _⟩ | ⟨D, ⟨hD2, rfl, _, _⟩, _, _, _, L0, _⟩
      · exact sm_tyn (fun post h => br_t rfl (br_t sm_n1lt h)) (fun post h => sm_yf3n h)
      · exact sm_tyo (by omega) L0 (fun post h => br_t rfl (br_f (nI_pos (by omega)) h)) (fun post h => sm_yf3 (by omega) h)
    · by_cases t0 : v1 = 0
      · subst t0
        rcases sm_exq v2 sc with ⟨j, hj, rfl⟩ | hn
        · exact sm_tyo (r := 1 + j) (by omega) (Sg j hj).1 (fun post h => sm_xfs0 (by omega) (fun hn => absurd rfl (hn j hj)) (fun i hi e => by rw [← sm_inj e (by omega) (by omega)]; exact h)) (fun post h => sm_yf0 (by omega) m0 (fun hn => absurd rfl (hn j hj)) (fun i hi e => by rw [← sm_inj e (by omega) (by omega)]; exact h))
        · exact sm_tyn (fun post h => sm_xfs0 (by omega) (fun _ => h) (fun i hi e => absurd e (hn i hi))) (fun post h => sm_yf0 (by omega) m0 (fun _ => h) (fun i hi e => absurd e (hn i hi)))
      · by_cases t1 : v1 = 1
        · subst t1
          rcases sm_exq v2 mc with ⟨j, hj, rfl⟩ | hn
          · exact sm_tyo (r := 9 + j) (by omega) (Md j hj).1 (fun post h => sm_xfs1 (by omega) (fun hn => absurd rfl (hn j hj)) (fun i hi e => by rw [← sm_inj e (by omega) (by omega)]; exact h)) (fun post h => sm_yf1 (by omega) m1 (fun hn => absurd rfl (hn j hj)) (fun i hi e => by rw [← sm_inj e (by omega) (by omega)]; exact h))
          · exact sm_tyn (fun post h => sm_xfs1 (by omega) (fun _ => h) (fun i hi e => absurd e (hn i hi))) (fun post h => sm_yf1 (by omega) m1 (fun _ => h) (fun i hi e => absurd e (hn i hi)))
        · by_cases t2 : v1 = 2
          · subst t2
            rcases sm_exq v2 fc with ⟨j, hj, rfl⟩ | hn
            · exact sm_tyo (r := 25 + j) (by omega) (Fn j hj).1 (fun post h => sm_xfs2 (by omega) (fun hn => absurd rfl (hn j hj)) (fun i hi e => by rw [← sm_inj e (by omega) (by omega)]; exact h)) (fun post h => sm_yf2 (by omega) m2 (fun hn => absurd rfl (hn j hj)) (fun i hi e => by rw [← sm_inj e (by omega) (by omega)]; exact h))
            · exact sm_tyn (fun post h => sm_xfs2 (by omega) (fun _ => h) (fun i hi e => absurd e (hn i hi))) (fun post h => sm_yf2 (by omega) m2 (fun _ => h) (fun i hi e => absurd e (hn i hi)))
          · exact sm_tyn (fun post h => sm_xfsn t3 t0 t1 t2 h) (fun post h => sm_yfn t3 t0 t1 t2 h)
  obtain ⟨c, hX, hY⟩ := K
  exact hX _ (hY _ ⟨rfl, J⟩)
theorem i_vc_param {k : Nat} {u : SX} {v : SY} (I : i_Rel k u v) (hk : k + 5 ≤ 2564) (v1 : Int32) (v2 : Int32) : wpX_param (fun r => wpY_param (fun r' => r' = r ∧ i_Rel (k + 5) u v) v v1 v2) u v1 v2 := by
  refine sm_el (P := fun u v => i_Rel (k + 5) u v → wpX_param (fun r => wpY_param (fun r' => r' = r ∧ i_Rel (k + 5) u v) v v1 v2) u v1 v2) ?_ I (i_up I)
  intro uc cost rk ML SL FL RM sc fc mc us nb xa xb dk dp df pl pd pc pf cd xfr xht ydp yfr yht yst yfa kx dx cx fx tx sp fp ff ft rt ag wk nk no nl cs cn cb fM fA fI fB fP fF vx bx md mo ky d1 d2 po bo fo nbd ck rA rN rD rC rO rX vY bY hN hC hD J
  unfold wpY_param
  obtain ⟨⟨n1, n2, n3, n4, n5, n6, n7⟩, ⟨hsc, hmc, hfc, hnb⟩, ⟨m0, m1, m2⟩, _⟩ := hN
  obtain ⟨_, _, Sg, Md, Fn⟩ := hC
  by_cases t3 : v1 = 3
  · subst t3
    refine br_t rfl ?_
    rcases hD.2.2 with ⟨rfl, rfl, _⟩ | ⟨D, ⟨hD2, rfl, _, ep⟩, _⟩
    · exact sm_yf3n (br_t sm_n1lt ⟨rfl, J⟩)
    · refine sm_yf3 (by omega) (br_f (by decide) (br_f (by decide) ⟨vp_in_iff.mpr (by decide), ?_, J⟩))
      exact ep
  · refine br_f t3 ?_
    by_cases t0 : v1 = 0
    · subst t0
      refine br_t rfl (sm_xex (by omega) (fun hn => br_t rfl (br_f (by decide) ?_)) (fun j hj e => br_f (by decide) ?_))
      · exact sm_yf0 (by omega) m0 (fun _ => br_t sm_n1lt ⟨rfl, J⟩) (fun i hi e => absurd e (hn i hi))
      · subst e
        refine ⟨vp_in_nI (by omega) (by omega), ?_⟩
        refine sm_yf0 (by omega) m0 (fun hn => absurd rfl (hn j hj)) (fun i hi e => ?_)
        have e2 := sm_inj e (by omega) (by omega)
        subst e2
        refine br_f (nI_pos (by omega)) (br_f (by decide) ⟨vp_in_nI (by omega) (by omega), ?_, J⟩)
        rw [nI_clamp (by omega), nI_clamp (by omega)]
        exact (Sg j hj).2.1
    · refine br_f t0 ?_
      by_cases t2 : v1 = 2
      · subst t2
        refine br_t rfl (sm_xex (by omega) (fun hn => br_t rfl ?_) (fun j hj e => br_f (by decide) ?_))
        · exact sm_yf2 (by omega) m2 (fun _ => br_t sm_n1lt ⟨rfl, J⟩) (fun i hi e => absurd e (hn i hi))
        · subst e
          refine ⟨vp_in_nI (by omega) (by omega), ?_⟩
          refine sm_yf2 (by omega) m2 (fun hn => absurd rfl (hn j hj)) (fun i hi e => ?_)
          have e2 := sm_inj e (by omega) (by omega)
          subst e2
          refine br_f (nI_pos (by omega)) (br_f (by decide) ⟨vp_in_nI (by omega) (by omega), ?_, J⟩)
          rw [nI_clamp (by omega), nI_clamp (by omega)]
          obtain ⟨_, _, p, b, a0, c0, dr, ⟨p1, p2, p3⟩, _⟩ := Fn j hj
          rw [p2, p3]
      · refine br_f t2 ?_
        by_cases t1 : v1 = 1
        · subst t1
          exact sm_yf1 (by omega) m1 (fun _ => br_t sm_n1lt ⟨rfl, J⟩) (fun i hi e => br_f (nI_pos (by omega)) (br_t rfl ⟨rfl, J⟩))
        · exact sm_yfn t3 t0 t1 t2 (br_t sm_n1lt ⟨rfl, J⟩)
end
section
def sm_YC (kx ky md po : Nat → Int32) (dp : Int32) (sc mc D : Nat) : Prop :=
  (dp = -1 ∨ ∃ p, p < sc ∧ dp = nI p) ∧ (sc ≤ 8 ∧ mc ≤ 16 ∧ D < 3) ∧ (md 0 = nI sc ∧ md 1 = nI mc ∧ po 0 = dp) ∧
  (∀ l, sm_mx ky 0 l = sm_mx kx 0 l) ∧ (∀ s, s < sc → ∀ l, sm_mx ky (1 + s) l = sm_mx kx (1 + s) l) ∧ (∀ m, m < mc → ∀ l, sm_mx ky (9 + m) l = sm_mx kx (9 + m) l)
def sm_YD (kx dx cx d1 d2 : Nat → Int32) (dp : Int32) (sc mc : Nat) : Prop :=
  ∀ W, sm_pl sc mc dp W → (sm_mx kx (sm_rw dp W) (W % 8) = 1 → sm_mx d1 (sm_rw dp W) (W % 8) = sm_mx dx (sm_rw dp W) (W % 8)) ∧ (sm_mx kx (sm_rw dp W) (W % 8) = 2 → sm_mx d1 (sm_rw dp W) (W % 8) = sm_mx dx (sm_rw dp W) (W % 8) ∧ sm_mx d2 (sm_rw dp W) (W % 8) = sm_mx cx (sm_rw dp W) (W % 8))
theorem sm_LR_12 {kx dx cx ky d1 d2 : Nat → Int32} {r : Nat} (L : sm_LR kx dx cx ky d1 d2 r) (l : Nat) : (sm_mx kx r l = 1 → sm_mx d1 r l = sm_mx dx r l) ∧ (sm_mx kx r l = 2 → sm_mx d1 r l = sm_mx dx r l ∧ sm_mx d2 r l = sm_mx cx r l) := by
  rcases (L l).2 with e | ⟨e, _, e2, _⟩ | ⟨e, e2, e3⟩
  · rw [e]; exact ⟨fun z => absurd z (by decide), fun z => absurd z (by decide)⟩
  · rw [e]; exact ⟨fun _ => e2, fun z => absurd z (by decide)⟩
  · exact ⟨fun _ => e2, fun _ => ⟨e2, e3⟩⟩
theorem sm_LR_12' {kx dx cx ky d1 d2 : Nat → Int32} {r : Nat} (L : sm_LR kx dx cx ky d1 d2 r) {l : Nat} (h : ¬ sm_mx kx r l = 0) : sm_mx d1 r l = sm_mx dx r l := by
  rcases (L l).2 with e | ⟨_, _, e2, _⟩ | ⟨_, e2, _⟩
  · exact absurd e h
  · exact e2
  · exact e2
theorem sm_rw_c {dp : Int32} {W sc mc : Nat} (hs : sc ≤ 8) (h : sm_pl sc mc dp W) : sm_rw dp W = 0 ∨ (∃ s, s < sc ∧ dp = nI s ∧ W / 8 = 1 ∧ sm_rw dp W = 1 + s) ∨ (∃ m, m < mc ∧ 2 ≤ W / 8 ∧ m = W / 8 - 2 ∧ sm_rw dp W = 9 + m) := by
  by_cases h0 : W / 8 = 0
  · exact Or.inl (sm_rw0 h0)
  · by_cases h1 : W / 8 = 1
    · obtain ⟨p, hp, e⟩ := h.1 h1
      exact Or.inr (Or.inl ⟨p, hp, e, h1, by rw [sm_rw1 h1, e, nI_clamp (by omega)]⟩)
    · exact Or.inr (Or.inr ⟨W / 8 - 2, h.2 (by omega), by omega, rfl, sm_rw2 (by omega)⟩)
section sm_R
variable {ML SL FL RM sc fc mc us nb : Nat} {xa xb dk dp df pl pd pc pf cd xfr xht ydp yfr yht yst yfa : Int32} {kx dx cx fx tx sp fp ff ft rt ag wk nk no nl cs cn cb fM fA fI fB fP fF vx bx md mo ky d1 d2 po bo fo nbd ck rA rN rD rC rO rX vY bY : Nat → Int32}
variable {uc D : Nat} {cost rk : Nat → Nat}
theorem sm_yc_of (hN : sm_Num ML SL FL RM sc fc mc nb md mo) (hC : sm_CL sc fc mc uc nb cost rk kx dx cx fx tx sp fp ff ft rt ag wk nk no nl ky d1 d2 po bo fo nbd) (h : sm_D1 kx dx cx fx tx sp nk no nl ky d1 d2 po nbd cs sc mc uc us nb D dk dp df pl pd pc pf cd) : sm_YC kx ky md po dp sc mc D := by
  obtain ⟨⟨n1, n2, n3, n4, n5, n6, n7⟩, ⟨hsc, hmc, hfc, hnb⟩, ⟨m0, m1, m2⟩, _⟩ := hN
  obtain ⟨_, _, Sg, Md, Fn⟩ := hC
  obtain ⟨⟨e1, e2, e3, e4⟩, e5, _, _, L0, _⟩ := h
  exact ⟨e5.imp id (fun ⟨p, a, b, _⟩ => ⟨p, a, b⟩), ⟨by omega, by omega, by omega⟩, ⟨m0, m1, e4⟩, fun l => (L0 l).1, fun s hs l => ((Sg s hs).1 l).1, fun m hm l => ((Md m hm).1 l).1⟩
theorem sm_yd_of (hN : sm_Num ML SL FL RM sc fc mc nb md mo) (hC : sm_CL sc fc mc uc nb cost rk kx dx cx fx tx sp fp ff ft rt ag wk nk no nl ky d1 d2 po bo fo nbd) (h : sm_D1 kx dx cx fx tx sp nk no nl ky d1 d2 po nbd cs sc mc uc us nb D dk dp df pl pd pc pf cd) : sm_YD kx dx cx d1 d2 dp sc mc := by
  obtain ⟨⟨n1, n2, n3, n4, n5, n6, n7⟩, ⟨hsc, hmc, hfc, hnb⟩, ⟨m0, m1, m2⟩, _⟩ := hN
  obtain ⟨_, _, Sg, Md, Fn⟩ := hC
  obtain ⟨_, _, _, _, L0, _⟩ := h
  intro W hW
  rcases sm_rw_c (by omega) hW with e | ⟨s, hs, _, _, e⟩ | ⟨m, hm, _, _, e⟩
  · rw [e]; exact sm_LR_12 L0 _
  · rw [e]; exact sm_LR_12 (Sg s hs).1 _
  · rw [e]; exact sm_LR_12 (Md m hm).1 _
end sm_R
theorem sm_cmp_pl {kx : Nat → Int32} {sc mc W : Nat} {dp kind : Int32} (hW : W < 2 ^ 31) (hs : sc ≤ 8) (h : sm_pl sc mc dp W) (hk : sm_mx kx (sm_rw dp W) (W % 8) = kind) : sm_cmp kx mc dp (nI W) kind = nI (8 * sm_rw dp W + W % 8) := by
  refine sm_cmp_hit hW ?_ rfl hk
  rintro (⟨h1, h2⟩ | ⟨h1, h2⟩)
  · obtain ⟨p, hp, e⟩ := h.1 h1
    rw [e] at h2
    exact nI_pos (by omega) h2
  · have := h.2 h1
    omega
theorem sm_rw_lt {dp : Int32} {W sc mc : Nat} (hs : sc ≤ 8) (hm : mc ≤ 16) (h : sm_pl sc mc dp W) : sm_rw dp W < 25 := by
  rcases sm_rw_c hs h with e | ⟨s, h1, _, _, e⟩ | ⟨m, h1, _, _, e⟩ <;> omega
section sm_Y
variable {yrm ynb yus ydk ypl ypd ypc ydp yfr yht yst yfa : Int32} {md mo ky d1 d2 po bo fo ynk yno nbd ynl ycn ycb ck rA rN rD rC rO rX vY bY : Nat → Int32}
theorem sm_yf_push {post : Int32 → SY → Prop} {k w x : Int32} {d : Nat} (hd : d < 4) (hk : (k = 0 ∧ x = ypd) ∨ (k = 1 ∧ x = -1)) (h : post 0 (yrm, ynb, yus, ydk, ypl, ypd, ypc, nI (d + 1), yfr, yht, yst, yfa, md, mo, ky, d1, d2, po, bo, fo, ynk, yno, nbd, ynl, ycn, ycb, upd ck d x, rA, rN, rD, rC, rO, rX, vY, bY)) : wpY_feed post (yrm, ynb, yus, ydk, ypl, ypd, ypc, nI d, yfr, yht, yst, yfa, md, mo, ky, d1, d2, po, bo, fo, ynk, yno, nbd, ynl, ycn, ycb, ck, rA, rN, rD, rC, rO, rX, vY, bY) k w := by
  have i : vp_in (nI d) 4 := vp_in_nI hd (by omega)
  have c : (nI d).toNatClampNeg = d := nI_clamp (by omega)
  have l : nI d < 4 := nI_lt (b := 4) hd (by decide)
  rcases hk with ⟨rfl, rfl⟩ | ⟨rfl, rfl⟩
  · exact br_t rfl (br_t l (br_t rfl ⟨i, nm_r (e' := upd ck d x) (by rw [c]) (nm_r (nI_1 d) h)⟩))
  · exact br_f (by decide) (br_t rfl (br_t l (br_f (by decide) ⟨i, nm_r (e' := upd ck d (-1)) (by rw [c]) (nm_r (nI_1 d) h)⟩)))
theorem sm_yf_full {post : Int32 → SY → Prop} {k w : Int32} {d : Nat} (hd : 4 ≤ d) (hd2 : d < 2 ^ 31) (hk : k = 0 ∨ k = 1) (h : post (-3) (yrm, ynb, yus, ydk, ypl, ypd, ypc, nI d, yfr, yht, yst, yfa, md, mo, ky, d1, d2, po, bo, fo, ynk, yno, nbd, ynl, ycn, ycb, ck, rA, rN, rD, rC, rO, rX, vY, bY)) : wpY_feed post (yrm, ynb, yus, ydk, ypl, ypd, ypc, nI d, yfr, yht, yst, yfa, md, mo, ky, d1, d2, po, bo, fo, ynk, yno, nbd, ynl, ycn, ycb, ck, rA, rN, rD, rC, rO, rX, vY, bY) k w := by
  have l : ¬ nI d < 4 := nI_nlt (b := 4) hd hd2
  rcases hk with rfl | rfl
  · exact br_t rfl (br_f l h)
  · exact br_f (by decide) (br_t rfl (br_f l h))
theorem sm_yf_miss {post : Int32 → SY → Prop} {k w : Int32} {d : Nat} (h0 : ¬ k = 0) (h1 : ¬ k = 1) (hd : (k = 5 ∧ d = 0) ∨ (¬ k = 5 ∧ d < 2)) (h : post (-5) (yrm, ynb, yus, ydk, ypl, ypd, ypc, nI d, yfr, yht, yst, yfa, md, mo, ky, d1, d2, po, bo, fo, ynk, yno, nbd, ynl, ycn, ycb, ck, rA, rN, rD, rC, rO, rX, vY, bY)) : wpY_feed post (yrm, ynb, yus, ydk, ypl, ypd, ypc, nI d, yfr, yht, yst, yfa, md, mo, ky, d1, d2, po, bo, fo, ynk, yno, nbd, ynl, ycn, ycb, ck, rA, rN, rD, rC, rO, rX, vY, bY) k w := by
  rcases hd with ⟨a, rfl⟩ | ⟨a, b⟩
  · exact br_f h0 (br_f h1 (br_t a (br_f (by decide) h)))
  · exact br_f h0 (br_f h1 (br_f a (br_f (nI_ge (b := 2) b (by decide)) h)))
theorem sm_yf_ar {post : Int32 → SY → Prop} {k w : Int32} {d : Nat} (h0 : ¬ k = 0) (h1 : ¬ k = 1) (h5 : ¬ k = 5) (hd : 2 ≤ d) (hd4 : d ≤ 4) (hp : ck (d - 1) = -1 → ck (d - 2) = -1 → post 0 (yrm, ynb, yus, ydk, ypl, ypd, ypc, nI (d - 1), yfr, yht, yst, yfa, md, mo, ky, d1, d2, po, bo, fo, ynk, yno, nbd, ynl, ycn, ycb, ck, rA, rN, rD, rC, rO, rX, vY, bY)) (hn : ¬ (ck (d - 1) = -1 ∧ ck (d - 2) = -1) → post (-6) (yrm, ynb, yus, ydk, ypl, ypd, ypc, nI d, yfr, yht, yst, yfa, md, mo, ky, d1, d2, po, bo, fo, ynk, yno, nbd, ynl, ycn, ycb, ck, rA, rN, rD, rC, rO, rX, vY, bY)) : wpY_feed post (yrm, ynb, yus, ydk, ypl, ypd, ypc, nI d, yfr, yht, yst, yfa, md, mo, ky, d1, d2, po, bo, fo, ynk, yno, nbd, ynl, ycn, ycb, ck, rA, rN, rD, rC, rO, rX, vY, bY) k w := by
  refine br_f h0 (br_f h1 (br_f h5 ?_))
  show wY_feed_67 post k w 2 (nI d) yrm ynb yus ydk ypl ypd ypc (nI d) yfr yht yst yfa md mo ky d1 d2 po bo fo ynk yno nbd ynl ycn ycb ck rA rN rD rC rO rX vY bY
  unfold wY_feed_67
  rw [sm_s1 (by omega), sm_s2 hd]
  refine br_t (nI_le (a := 2) hd (by omega)) (br_f h5 ⟨vp_in_nI (by omega) (by omega), ?_⟩)
  rw [nI_clamp (by omega), nI_clamp (by omega)]
  exact br_c (fun e => ⟨vp_in_nI (by omega) (by omega), br_c (fun e2 => nm_e (hp e e2)) (fun e2 => hn fun z => e2 z.2)⟩) (fun e => hn fun z => e z.1)
theorem sm_yf_call {post : Int32 → SY → Prop} {kx : Nat → Int32} {dp : Int32} {sc mc D d W : Nat} (C : sm_YC kx ky md po dp sc mc D) (hW : W < 2 ^ 31) (hp : sm_pl sc mc dp W) (hk : sm_mx kx (sm_rw dp W) (W % 8) = 2) (hd : 1 ≤ d) (hd4 : d ≤ 4)
    (h1 : ck (d - 1) = sm_lf W (sm_mx d1 (sm_rw dp W) (W % 8)) → post 0 (yrm, ynb, yus, nI D, ypl, ypd, ypc, nI d, yfr, yht, yst, yfa, md, mo, ky, d1, d2, po, bo, fo, ynk, yno, nbd, ynl, ycn, ycb, upd ck (d - 1) (sm_lf W (sm_mx d2 (sm_rw dp W) (W % 8))), rA, rN, rD, rC, rO, rX, vY, bY)) (h2 : ¬ ck (d - 1) = sm_lf W (sm_mx d1 (sm_rw dp W) (W % 8)) → post (-6) (yrm, ynb, yus, nI D, ypl, ypd, ypc, nI d, yfr, yht, yst, yfa, md, mo, ky, d1, d2, po, bo, fo, ynk, yno, nbd, ynl, ycn, ycb, ck, rA, rN, rD, rC, rO, rX, vY, bY)) : wpY_feed post (yrm, ynb, yus, nI D, ypl, ypd, ypc, nI d, yfr, yht, yst, yfa, md, mo, ky, d1, d2, po, bo, fo, ynk, yno, nbd, ynl, ycn, ycb, ck, rA, rN, rD, rC, rO, rX, vY, bY) 5 (nI W) := by
  obtain ⟨c1, ⟨c2, c3, c4⟩, ⟨c5, c6, c7⟩, c8, c9, c10⟩ := C
  have hq : W % 8 < 8 := Nat.mod_lt _ (by decide)
  have hr := sm_rw_lt c2 c3 hp
  have i4 : vp_in (nI (d - 1)) 4 := vp_in_nI (by omega) (by omega)
  have ir : vp_in (nI (8 * sm_rw dp W + W % 8)) 424 := vp_in_nI (by omega) (by omega)
  refine br_f (by decide) (br_f (by decide) (br_t rfl ?_))
  show wY_feed_67 post 5 (nI W) 1 (nI d) yrm ynb yus (nI D) ypl ypd ypc (nI d) yfr yht yst yfa md mo ky d1 d2 po bo fo ynk yno nbd ynl ycn ycb ck rA rN rD rC rO rX vY bY
  unfold wY_feed_67
  rw [sm_s1 (by omega), nI_clamp (show d - 1 < 2 ^ 31 by omega)]
  refine br_t (nI_le (a := 1) hd (by omega)) (br_t rfl (sm_ycmp (kx := kx) c1 c2 c3 c4 c5 c6 c7 c8 c9 c10 ?_))
  rw [sm_cmp_pl hW c2 hp hk]
  refine br_t (nI_pos' (by omega)) ⟨ir, ?_⟩
  rw [nI_clamp (show 8 * sm_rw dp W + W % 8 < 2 ^ 31 by omega), sm_mx2 (a := d1) hq, sm_mx2 (a := d2) hq]
  exact sm_ylift hW ⟨i4, br_c (fun e => ⟨ir, sm_ylift hW ⟨i4, nm_e (h1 e)⟩⟩) h2⟩
end sm_Y
end
section
theorem sm_ok0 {k : Int32} {d : Nat} (h : k = 0 ∨ k = 1) (o : sm_ok k d) : d < 4 ∧ sm_st k d = d + 1 := by
  unfold sm_ok at o; unfold sm_st
  rw [if_pos h] at o ⊢
  exact ⟨o, rfl⟩
theorem sm_ok5 {d : Nat} (o : sm_ok 5 d) : 1 ≤ d ∧ sm_st 5 d = d := by
  unfold sm_ok at o; unfold sm_st
  rw [if_neg (by decide), if_pos rfl] at o ⊢
  exact ⟨o, rfl⟩
theorem sm_oka {k : Int32} {d : Nat} (h0 : ¬ k = 0) (h1 : ¬ k = 1) (h5 : ¬ k = 5) (o : sm_ok k d) : 2 ≤ d ∧ sm_st k d = d - 1 := by
  unfold sm_ok at o; unfold sm_st
  rw [if_neg (fun z => z.elim h0 h1), if_neg h5] at o ⊢
  exact ⟨o, rfl⟩
theorem sm_ok_le {k : Int32} {d : Nat} (hd : d ≤ 4) (o : sm_ok k d) : sm_st k d ≤ 4 := by
  by_cases h : k = 0 ∨ k = 1
  · have := sm_ok0 h o; omega
  · by_cases h5 : k = 5
    · subst h5; have := sm_ok5 o; omega
    · have := sm_oka (fun z => h (Or.inl z)) (fun z => h (Or.inr z)) h5 o; omega
theorem sm_sd_le {nk : Nat → Int32} {a : Nat} : ∀ n, (∀ m, m < n → sm_ok (nk (a + m)) (sm_sd nk a m)) → sm_sd nk a n ≤ 4 := by
  intro n
  induction n with
  | zero => intro _; exact Nat.zero_le _
  | succ n ih =>
    intro h
    rw [sm_sd_s]
    exact sm_ok_le (ih fun m hm => h m (by omega)) (h n (by omega))
section sm_Y
variable {yrm ynb yus ydk ypl ypd ypc ydp yfr yht yst yfa : Int32} {md mo ky d1 d2 po bo fo ynk yno nbd ynl ycn ycb ck rA rN rD rC rO rX vY bY : Nat → Int32}
theorem sm_yr_no {post : SY → Prop} {us nb k n : Nat} (hk : k < us) (hus : us ≤ 192) (h : ¬ (nbd k = nI nb ∧ ynl k = ypl)) (hn : wY_replay_7 post n (nI (k + 1)) yrm (nI nb) (nI us) ydk ypl ypd ypc ydp yfr yht yst yfa md mo ky d1 d2 po bo fo ynk yno nbd ynl ycn ycb ck rA rN rD rC rO rX vY bY) : wY_replay_7 post (n + 1) (nI k) yrm (nI nb) (nI us) ydk ypl ypd ypc ydp yfr yht yst yfa md mo ky d1 d2 po bo fo ynk yno nbd ynl ycn ycb ck rA rN rD rC rO rX vY bY := by
  have i : vp_in (nI k) 192 := vp_in_nI (by omega) (by omega)
  unfold wY_replay_7
  rw [nI_clamp (show k < 2 ^ 31 by omega)]
  exact br_f (nI_ge hk (by omega)) ⟨i, br_c (fun e => ⟨i, br_f (fun e2 => h ⟨e, e2⟩) (nm_r (nI_1 k) hn)⟩) (fun e => nm_r (nI_1 k) hn)⟩
theorem sm_yr_skip {post : SY → Prop} {us nb n : Nat} (hus : us ≤ 192) : ∀ d k, k + d ≤ us → (∀ i, k ≤ i → i < k + d → ¬ (nbd i = nI nb ∧ ynl i = ypl)) → wY_replay_7 post n (nI (k + d)) yrm (nI nb) (nI us) ydk ypl ypd ypc ydp yfr yht yst yfa md mo ky d1 d2 po bo fo ynk yno nbd ynl ycn ycb ck rA rN rD rC rO rX vY bY → wY_replay_7 post (n + d) (nI k) yrm (nI nb) (nI us) ydk ypl ypd ypc ydp yfr yht yst yfa md mo ky d1 d2 po bo fo ynk yno nbd ynl ycn ycb ck rA rN rD rC rO rX vY bY := by
  intro d
  induction d with
  | zero => intro k _ _ h; exact h
  | succ d ih =>
    intro k hk h hn
    refine sm_yr_no (by omega) hus (h k (by omega) (by omega)) (ih (k + 1) (by omega) (fun i h1 h2 => h i (by omega) (by omega)) ?_)
    rw [show k + 1 + d = k + (d + 1) by omega]
    exact hn
theorem sm_yr_none {post : SY → Prop} {us nb : Nat} (hus : us ≤ 192) (h : ∀ i, i < us → ¬ (nbd i = nI nb ∧ ynl i = ypl)) (hp : post (yrm, nI nb, nI us, ydk, ypl, ypd, ypc, 0, yfr, yht, yst, yfa, md, mo, ky, d1, d2, po, bo, fo, ynk, yno, nbd, ynl, ycn, ycb, ck, rA, rN, rD, rC, rO, rX, vY, bY)) : wpY_replay post (yrm, nI nb, nI us, ydk, ypl, ypd, ypc, ydp, yfr, yht, yst, yfa, md, mo, ky, d1, d2, po, bo, fo, ynk, yno, nbd, ynl, ycn, ycb, ck, rA, rN, rD, rC, rO, rX, vY, bY) := by
  have K := sm_yr_skip (post := post) (n := 1) (ydp := 0) hus us 0 (by omega) (fun i _ hi => h i (by omega)) (by rw [Nat.zero_add]; exact br_t (nI_le (Nat.le_refl _) (by omega)) hp)
  rw [nI_0] at K
  exact ⟨_, K⟩
theorem sm_yr_yes {post : SY → Prop} {us nb k n : Nat} {y' : Int32} {c' : Nat → Int32} (hk : k < us) (hus : us ≤ 192) (h : nbd k = nI nb ∧ ynl k = ypl) (hf : ∀ q : Int32 → SY → Prop, q 0 (yrm, nI nb, nI us, ydk, ypl, ypd, ypc, y', yfr, yht, yst, yfa, md, mo, ky, d1, d2, po, bo, fo, ynk, yno, nbd, ynl, ycn, ycb, c', rA, rN, rD, rC, rO, rX, vY, bY) → wpY_feed q (yrm, nI nb, nI us, ydk, ypl, ypd, ypc, ydp, yfr, yht, yst, yfa, md, mo, ky, d1, d2, po, bo, fo, ynk, yno, nbd, ynl, ycn, ycb, ck, rA, rN, rD, rC, rO, rX, vY, bY) (ynk k) (yno k)) (hn : wY_replay_7 post n (nI (k + 1)) yrm (nI nb) (nI us) ydk ypl ypd ypc y' yfr yht yst yfa md mo ky d1 d2 po bo fo ynk yno nbd ynl ycn ycb c' rA rN rD rC rO rX vY bY) : wY_replay_7 post (n + 1) (nI k) yrm (nI nb) (nI us) ydk ypl ypd ypc ydp yfr yht yst yfa md mo ky d1 d2 po bo fo ynk yno nbd ynl ycn ycb ck rA rN rD rC rO rX vY bY := by
  have i : vp_in (nI k) 192 := vp_in_nI (by omega) (by omega)
  unfold wY_replay_7
  rw [nI_clamp (show k < 2 ^ 31 by omega)]
  exact br_f (nI_ge hk (by omega)) ⟨i, br_t h.1 ⟨i, br_t h.2 ⟨i, i, hf _ (nm_r (nI_1 k) hn)⟩⟩⟩
theorem sm_yrep {post : SY → Prop} {kx dx cx : Nat → Int32} {dp : Int32} {T : Nat → Nat → Int32} {us ud nb sc mc D : Nat} (hus : us ≤ 192) (hud : ud ≤ us) (C : sm_YC kx ky md po dp sc mc D) (Y : sm_YD kx dx cx d1 d2 dp sc mc)
    (h0 : ∀ i, i < ud → ¬ (nbd i = nI nb ∧ ynl i = ypl)) (h1 : ∀ i, ud ≤ i → i < us → nbd i = nI nb ∧ ynl i = ypl)
    (hT : ∀ n, ud + n < us → sm_ok (ynk (ud + n)) (sm_sd ynk ud n) ∧ sm_Tn kx dx cx sc mc dp ypd (ynk (ud + n)) (yno (ud + n)) (sm_sd ynk ud n) (T n) (T (n + 1)))
    (hp : ∀ c' : Nat → Int32, (∀ j, j < sm_sd ynk ud (us - ud) → c' j = T (us - ud) j) → post (yrm, nI nb, nI us, nI D, ypl, ypd, ypc, nI (sm_sd ynk ud (us - ud)), yfr, yht, yst, yfa, md, mo, ky, d1, d2, po, bo, fo, ynk, yno, nbd, ynl, ycn, ycb, c', rA, rN, rD, rC, rO, rX, vY, bY)) : wpY_replay post (yrm, nI nb, nI us, nI D, ypl, ypd, ypc, ydp, yfr, yht, yst, yfa, md, mo, ky, d1, d2, po, bo, fo, ynk, yno, nbd, ynl, ycn, ycb, ck, rA, rN, rD, rC, rO, rX, vY, bY) := by
  have key : ∀ d n, ud + n + d = us → ∀ c' : Nat → Int32, (∀ j, j < sm_sd ynk ud n → c' j = T n j) → wY_replay_7 post (d + 1) (nI (ud + n)) yrm (nI nb) (nI us) (nI D) ypl ypd ypc (nI (sm_sd ynk ud n)) yfr yht yst yfa md mo ky d1 d2 po bo fo ynk yno nbd ynl ycn ycb c' rA rN rD rC rO rX vY bY := by
    intro d
    induction d with
    | zero =>
      intro n hn c' hc
      have e : n = us - ud := by omega
      subst e
      exact br_t (nI_le (by omega) (by omega)) (hp c' hc)
    | succ d ih =>
      intro n hn c' hc
      obtain ⟨o, t0, t1, t5, ta⟩ := hT n (by omega)
      have hle : sm_sd ynk ud n ≤ 4 := sm_sd_le n fun m hm => (hT m (by omega)).1
      have hS := h1 (ud + n) (by omega) (by omega)
      by_cases k0 : ynk (ud + n) = 0
      · obtain ⟨o1, o2⟩ := sm_ok0 (Or.inl k0) o
        rw [k0] at o2
        refine sm_yr_yes (y' := nI (sm_sd ynk ud n + 1)) (c' := upd c' (sm_sd ynk ud n) ypd) (by omega) hus hS (fun q hq => ?_) ?_
        · rw [k0]; exact sm_yf_push o1 (Or.inl ⟨rfl, rfl⟩) hq
        · have K := ih (n + 1) (by omega) (upd c' (sm_sd ynk ud n) ypd) (fun j hj => by
            rw [sm_sd_s, k0, o2] at hj
            by_cases e : j = sm_sd ynk ud n
            · rw [e, pk_us]; exact ((t0 k0).2).symm
            · rw [pk_un e, hc j (by omega)]; exact ((t0 k0).1 j (by omega)).symm)
          rw [sm_sd_s, k0, o2] at K
          exact K
      · by_cases k1 : ynk (ud + n) = 1
        · obtain ⟨o1, o2⟩ := sm_ok0 (Or.inr k1) o
          rw [k1] at o2
          refine sm_yr_yes (y' := nI (sm_sd ynk ud n + 1)) (c' := upd c' (sm_sd ynk ud n) (-1)) (by omega) hus hS (fun q hq => ?_) ?_
          · rw [k1]; exact sm_yf_push o1 (Or.inr ⟨rfl, rfl⟩) hq
          · have K := ih (n + 1) (by omega) (upd c' (sm_sd ynk ud n) (-1)) (fun j hj => by
              rw [sm_sd_s, k1, o2] at hj
              by_cases e : j = sm_sd ynk ud n
              · rw [e, pk_us]; exact ((t1 k1).2).symm
              · rw [pk_un e, hc j (by omega)]; exact ((t1 k1).1 j (by omega)).symm)
            rw [sm_sd_s, k1, o2] at K
            exact K
        · by_cases k5 : ynk (ud + n) = 5
          · rw [k5] at o
            obtain ⟨o1, o2⟩ := sm_ok5 o
            obtain ⟨g1, W, hW, eW, hpl, hk2, g2, g3⟩ := t5 k5
            obtain ⟨y1, y2⟩ := (Y W hpl).2 hk2
            refine sm_yr_yes (y' := nI (sm_sd ynk ud n)) (c' := upd c' (sm_sd ynk ud n - 1) (sm_lf W (sm_mx d2 (sm_rw dp W) (W % 8)))) (by omega) hus hS (fun q hq => ?_) ?_
            · rw [k5, eW]
              refine sm_yf_call C hW hpl hk2 o1 hle (fun _ => hq) (fun z => absurd ?_ z)
              rw [hc _ (by omega), g2, y1]
            · have K := ih (n + 1) (by omega) (upd c' (sm_sd ynk ud n - 1) (sm_lf W (sm_mx d2 (sm_rw dp W) (W % 8)))) (fun j hj => by
                rw [sm_sd_s, k5, o2] at hj
                by_cases e : j = sm_sd ynk ud n - 1
                · rw [e, pk_us, y2]; exact g3.symm
                · rw [pk_un e, hc j (by omega)]; exact (g1 j (by omega)).symm)
              rw [sm_sd_s, k5, o2] at K
              exact K
          · obtain ⟨o1, o2⟩ := sm_oka k0 k1 k5 o
            obtain ⟨g1, g2, g3⟩ := ta k0 k1 k5
            refine sm_yr_yes (y' := nI (sm_sd ynk ud n - 1)) (c' := c') (by omega) hus hS (fun q hq => ?_) ?_
            · refine sm_yf_ar k0 k1 k5 o1 hle (fun _ _ => hq) (fun z => absurd ⟨?_, ?_⟩ z)
              · rw [hc _ (by omega)]; exact g2
              · rw [hc _ (by omega)]; exact g3
            · have K := ih (n + 1) (by omega) c' (fun j hj => by
                rw [sm_sd_s, o2] at hj
                rw [hc j (by omega)]; exact (g1 j (by omega)).symm)
              rw [sm_sd_s, o2] at K
              exact K
  have K := sm_yr_skip (post := post) (n := us - ud + 1) (ydp := 0) (ydk := nI D) hus ud 0 (by omega) (fun i _ hi => h0 i (by omega)) (by
    rw [Nat.zero_add]
    exact key (us - ud) 0 (by omega) ck (fun j hj => absurd hj (Nat.not_lt_zero j)))
  rw [nI_0] at K
  exact ⟨_, K⟩
end sm_Y
end
section
section sm_R
variable {ML SL FL RM sc fc mc us nb : Nat} {xa xb dk dp df pl pd pc pf cd xfr xht ydp yfr yht yst yfa : Int32} {kx dx cx fx tx sp fp ff ft rt ag wk nk no nl cs cn cb fM fA fI fB fP fF vx bx md mo ky d1 d2 po bo fo nbd ck rA rN rD rC rO rX vY bY : Nat → Int32}
variable {uc : Nat} {cost rk : Nat → Nat}
theorem sm_rep {post : SY → Prop} (hN : sm_Num ML SL FL RM sc fc mc nb md mo) (hC : sm_CL sc fc mc uc nb cost rk kx dx cx fx tx sp fp ff ft rt ag wk nk no nl ky d1 d2 po bo fo nbd) (hD : sm_DR kx dx cx fx tx sp nk no nl ky d1 d2 po nbd cs sc mc uc us nb RM dk dp df pl pd pc pf cd) (h : ∀ (n : Nat) (c' : Nat → Int32), cd = nI n → n ≤ 4 → (∀ j, j < n → c' j = cs j) → post (nI RM, nI nb, nI us, dk, pl, pd, pc, nI n, yfr, yht, yst, yfa, md, mo, ky, d1, d2, po, bo, fo, nk, no, nbd, nl, cn, cb, c', rA, rN, rD, rC, rO, rX, vY, bY)) : wpY_replay post (nI RM, nI nb, nI us, dk, pl, pd, pc, ydp, yfr, yht, yst, yfa, md, mo, ky, d1, d2, po, bo, fo, nk, no, nbd, nl, cn, cb, ck, rA, rN, rD, rC, rO, rX, vY, bY) := by
  have hN' := hN
  have hC' := hC
  obtain ⟨⟨n1, n2, n3, n4, n5, n6, n7⟩, ⟨hsc, hmc, hfc, hnb⟩, ⟨m0, m1, m2⟩, _⟩ := hN'
  obtain ⟨_, hB, Sg, Md, Fn⟩ := hC'
  obtain ⟨⟨u1, u2⟩, hG, hD⟩ := hD
  have hlow : ∀ k, k < uc → ¬ nbd k = nI nb := by
    intro k hk e
    obtain ⟨b, hb, eb⟩ := hB k hk
    rw [eb] at e
    have := sm_inj e (by omega) (by omega)
    omega
  have none : cd = 0 → (∀ i, i < us → ¬ (nbd i = nI nb ∧ nl i = pl)) → wpY_replay post (nI RM, nI nb, nI us, dk, pl, pd, pc, ydp, yfr, yht, yst, yfa, md, mo, ky, d1, d2, po, bo, fo, nk, no, nbd, nl, cn, cb, ck, rA, rN, rD, rC, rO, rX, vY, bY) := by
    intro e h2
    exact sm_yr_none (by omega) h2 (h 0 ck e (by omega) (fun j hj => absurd hj (Nat.not_lt_zero j)))
  rcases hD with ⟨rfl, rfl, rfl, rfl, rfl⟩ | ⟨D, hD1⟩
  · exact none rfl (fun i hi z => hlow i hi z.1)
  · have hD1' := hD1
    obtain ⟨⟨e1, rfl, e3, e4⟩, e5, e6, e7, L0, T0, z0, z1⟩ := hD1'
    by_cases hz : D = 0
    · obtain ⟨rfl, rfl, rfl⟩ := z0 hz
      exact none rfl (fun i hi z => hlow i hi z.1)
    · obtain ⟨dr, ud, k1, k2, k3, k4, k5, k6⟩ := z1 hz
      rcases k6 with ⟨rfl, rfl, rfl⟩ | ⟨L, hL, rfl, kL, rfl, lL, tp, tc, rfl, T, hT, hT2⟩
      · refine none rfl (fun i hi z => ?_)
        by_cases hi' : i < uc
        · exact hlow i hi' z.1
        · obtain ⟨l, hl, el, _⟩ := k5 i (by omega) hi
          rw [el] at z
          exact sm_ne1 (by omega) z.2
      · refine sm_yrep (T := T) (by omega) k2 (sm_yc_of hN hC hD1) (sm_yd_of hN hC hD1) (fun i hi z => ?_) (fun i hi1 hi2 => ⟨hG i (by omega) hi2, lL i hi1 hi2⟩) hT2 (fun c' hc => ?_)
        · by_cases hi' : i < uc
          · exact hlow i hi' z.1
          · obtain ⟨l, hl, el, e2⟩ := k5 i (by omega) hi
            rw [el] at z
            have := sm_inj z.2 (by omega) (by omega)
            subst this
            rw [kL] at e2
            exact absurd e2 (by decide)
        · refine h _ c' rfl (sm_sd_le _ fun m hm => (hT2 m (by omega)).1) (fun j hj => ?_)
          rw [hc j hj]; exact hT j hj
end sm_R
theorem i_vc_count {k : Nat} {u : SX} {v : SY} (I : i_Rel k u v) (hk : k + 5 ≤ 2564) (v1 : Int32) : wpX_count (fun r => wpY_count (fun r' v' => r' = r ∧ i_Rel (k + 5) u v') v v1) u v1 := by
  refine sm_el (P := fun u v => wpX_count (fun r => wpY_count (fun r' v' => r' = r ∧ i_Rel (k + 5) u v') v v1) u v1) ?_ I
  intro uc cost rk ML SL FL RM sc fc mc us nb xa xb dk dp df pl pd pc pf cd xfr xht ydp yfr yht yst yfa kx dx cx fx tx sp fp ff ft rt ag wk nk no nl cs cn cb fM fA fI fB fP fF vx bx md mo ky d1 d2 po bo fo nbd ck rA rN rD rC rO rX vY bY hN hC hD
  have J : ∀ (n : Nat) (c' : Nat → Int32), i_Rel (k + 5) (xa, xb, nI ML, nI SL, nI FL, nI RM, nI sc, nI fc, nI mc, nI us, dk, dp, df, pl, pd, pc, pf, cd, xfr, xht, kx, dx, cx, fx, tx, sp, fp, ff, ft, rt, ag, wk, nk, no, nl, cs, cn, cb, fM, fA, fI, fB, fP, fF, vx, bx) (nI RM, nI nb, nI us, dk, pl, pd, pc, nI n, yfr, yht, yst, yfa, md, mo, ky, d1, d2, po, bo, fo, nk, no, nbd, nl, cn, cb, c', rA, rN, rD, rC, rO, rX, vY, bY) := fun n c' => sm_in hN hC hD
  have hN' := hN
  obtain ⟨⟨n1, n2, n3, n4, n5, n6, n7⟩, ⟨hsc, hmc, hfc, hnb⟩, ⟨m0, m1, m2⟩, _⟩ := hN'
  unfold wpY_count
  have low : ∀ (c : Nat) (x : Int32), c < 3 → md c = x → (∀ j < 3, j ≠ c → True) → wpY_replay (fun u => match u with | (yrm, ynb, yus, ydk, ypl, ypd, ypc, ydp, yfr, yht, yst, yfa, md, mo, ky, d1, d2, po, bo, fo, ynk, yno, nbd, ynl, ycn, ycb, ck, rA, rN, rD, rC, rO, rX, vY, bY) => (((nI c < 0 → (wY_count_20 (fun r' v' => r' = x ∧ i_Rel (k + 5) (xa, xb, nI ML, nI SL, nI FL, nI RM, nI sc, nI fc, nI mc, nI us, dk, dp, df, pl, pd, pc, pf, cd, xfr, xht, kx, dx, cx, fx, tx, sp, fp, ff, ft, rt, ag, wk, nk, no, nl, cs, cn, cb, fM, fA, fI, fB, fP, fF, vx, bx) v') (nI c) yrm ynb yus ydk ypl ypd ypc ydp yfr yht yst yfa md mo ky d1 d2 po bo fo ynk yno nbd ynl ycn ycb ck rA rN rD rC rO rX vY bY)) ∧ (¬ nI c < 0 → (((2 < nI c → (wY_count_20 (fun r' v' => r' = x ∧ i_Rel (k + 5) (xa, xb, nI ML, nI SL, nI FL, nI RM, nI sc, nI fc, nI mc, nI us, dk, dp, df, pl, pd, pc, pf, cd, xfr, xht, kx, dx, cx, fx, tx, sp, fp, ff, ft, rt, ag, wk, nk, no, nl, cs, cn, cb, fM, fA, fI, fB, fP, fF, vx, bx) v') (nI c) yrm ynb yus ydk ypl ypd ypc ydp yfr yht yst yfa md mo ky d1 d2 po bo fo ynk yno nbd ynl ycn ycb ck rA rN rD rC rO rX vY bY)) ∧ (¬ 2 < nI c → (vp_in (nI c) 3 ∧ ((fun r' v' => r' = x ∧ i_Rel (k + 5) (xa, xb, nI ML, nI SL, nI FL, nI RM, nI sc, nI fc, nI mc, nI us, dk, dp, df, pl, pd, pc, pf, cd, xfr, xht, kx, dx, cx, fx, tx, sp, fp, ff, ft, rt, ag, wk, nk, no, nl, cs, cn, cb, fM, fA, fI, fB, fP, fF, vx, bx) v') (md (nI c).toNatClampNeg) (yrm, ynb, yus, ydk, ypl, ypd, ypc, ydp, yfr, yht, yst, yfa, md, mo, ky, d1, d2, po, bo, fo, ynk, yno, nbd, ynl, ycn, ycb, ck, rA, rN, rD, rC, rO, rX, vY, bY))))))))) ) (nI RM, nI nb, nI us, dk, pl, pd, pc, ydp, yfr, yht, yst, yfa, md, mo, ky, d1, d2, po, bo, fo, nk, no, nbd, nl, cn, cb, ck, rA, rN, rD, rC, rO, rX, vY, bY) := by
    intro c x hc e _
    refine sm_rep hN hC hD (fun n c' e1 e2 e3 => br_f (nI_pos (by omega)) (br_f (nI_nlt (a := 2) (by omega) (by decide)) ⟨vp_in_nI hc (by omega), ?_, J n c'⟩))
    rw [nI_clamp (by omega)]
    exact e
  have high : ∀ x : Int32, (v1 = 3 ∧ x = nI us) ∨ (v1 = 4 ∧ x = dk) ∨ (v1 = 5 ∧ x = cd) ∨ (x = -1 ∧ ¬ v1 = 0 ∧ ¬ v1 = 1 ∧ ¬ v1 = 2 ∧ ¬ v1 = 3 ∧ ¬ v1 = 4 ∧ ¬ v1 = 5) → wpY_replay (fun u => match u with | (yrm, ynb, yus, ydk, ypl, ypd, ypc, ydp, yfr, yht, yst, yfa, md, mo, ky, d1, d2, po, bo, fo, ynk, yno, nbd, ynl, ycn, ycb, ck, rA, rN, rD, rC, rO, rX, vY, bY) => (((v1 < 0 → (wY_count_20 (fun r' v' => r' = x ∧ i_Rel (k + 5) (xa, xb, nI ML, nI SL, nI FL, nI RM, nI sc, nI fc, nI mc, nI us, dk, dp, df, pl, pd, pc, pf, cd, xfr, xht, kx, dx, cx, fx, tx, sp, fp, ff, ft, rt, ag, wk, nk, no, nl, cs, cn, cb, fM, fA, fI, fB, fP, fF, vx, bx) v') v1 yrm ynb yus ydk ypl ypd ypc ydp yfr yht yst yfa md mo ky d1 d2 po bo fo ynk yno nbd ynl ycn ycb ck rA rN rD rC rO rX vY bY)) ∧ (¬ v1 < 0 → (((2 < v1 → (wY_count_20 (fun r' v' => r' = x ∧ i_Rel (k + 5) (xa, xb, nI ML, nI SL, nI FL, nI RM, nI sc, nI fc, nI mc, nI us, dk, dp, df, pl, pd, pc, pf, cd, xfr, xht, kx, dx, cx, fx, tx, sp, fp, ff, ft, rt, ag, wk, nk, no, nl, cs, cn, cb, fM, fA, fI, fB, fP, fF, vx, bx) v') v1 yrm ynb yus ydk ypl ypd ypc ydp yfr yht yst yfa md mo ky d1 d2 po bo fo ynk yno nbd ynl ycn ycb ck rA rN rD rC rO rX vY bY)) ∧ (¬ 2 < v1 → (vp_in v1 3 ∧ ((fun r' v' => r' = x ∧ i_Rel (k + 5) (xa, xb, nI ML, nI SL, nI FL, nI RM, nI sc, nI fc, nI mc, nI us, dk, dp, df, pl, pd, pc, pf, cd, xfr, xht, kx, dx, cx, fx, tx, sp, fp, ff, ft, rt, ag, wk, nk, no, nl, cs, cn, cb, fM, fA, fI, fB, fP, fF, vx, bx) v') (md v1.toNatClampNeg) (yrm, ynb, yus, ydk, ypl, ypd, ypc, ydp, yfr, yht, yst, yfa, md, mo, ky, d1, d2, po, bo, fo, ynk, yno, nbd, ynl, ycn, ycb, ck, rA, rN, rD, rC, rO, rX, vY, bY))))))))) ) (nI RM, nI nb, nI us, dk, pl, pd, pc, ydp, yfr, yht, yst, yfa, md, mo, ky, d1, d2, po, bo, fo, nk, no, nbd, nl, cn, cb, ck, rA, rN, rD, rC, rO, rX, vY, bY) := by
    intro x hx
    refine sm_rep hN hC hD (fun n c' e1 e2 e3 => ?_)
    have G : wY_count_20 (fun r' v' => r' = x ∧ i_Rel (k + 5) (xa, xb, nI ML, nI SL, nI FL, nI RM, nI sc, nI fc, nI mc, nI us, dk, dp, df, pl, pd, pc, pf, cd, xfr, xht, kx, dx, cx, fx, tx, sp, fp, ff, ft, rt, ag, wk, nk, no, nl, cs, cn, cb, fM, fA, fI, fB, fP, fF, vx, bx) v') v1 (nI RM) (nI nb) (nI us) dk pl pd pc (nI n) yfr yht yst yfa md mo ky d1 d2 po bo fo nk no nbd nl cn cb c' rA rN rD rC rO rX vY bY := by
      rcases hx with ⟨a, b⟩ | ⟨a, b⟩ | ⟨a, b⟩ | ⟨a, b0, b1, b2, b3, b4, b5⟩
      · exact br_t a ⟨b.symm, J n c'⟩
      · exact br_f (by rw [a]; decide) (br_t a ⟨b.symm, J n c'⟩)
      · exact br_f (by rw [a]; decide) (br_f (by rw [a]; decide) (br_t a ⟨e1.symm.trans b.symm, J n c'⟩))
      · exact br_f b3 (br_f b4 (br_f b5 ⟨a.symm, J n c'⟩))
    by_cases hn : v1 < 0
    · exact br_t hn G
    · refine br_f hn (br_t ?_ G)
      obtain ⟨q, hq, rfl⟩ := nI_of hn
      refine nI_lt (a := 2) ?_ hq
      rcases hx with ⟨a, _⟩ | ⟨a, _⟩ | ⟨a, _⟩ | ⟨a, b0, b1, b2, b3, b4, b5⟩
      · have := sm_inj (b := 3) a hq (by omega); omega
      · have := sm_inj (b := 4) a hq (by omega); omega
      · have := sm_inj (b := 5) a hq (by omega); omega
      · have : q ≠ 0 := fun e => b0 (by rw [e]; rfl)
        have : q ≠ 1 := fun e => b1 (by rw [e]; rfl)
        have : q ≠ 2 := fun e => b2 (by rw [e]; rfl)
        omega
  refine br_c (fun e => ?_) (fun h0 => br_c (fun e => ?_) (fun h1 => br_c (fun e => ?_) (fun h2 => br_c (fun e => ?_) (fun h3 => br_c (fun e => ?_) (fun h4 => br_c (fun e => ?_) (fun h5 => ?_))))))
  · subst e; exact low 0 (nI sc) (by omega) m0 (fun _ _ _ => trivial)
  · subst e; exact low 1 (nI mc) (by omega) m1 (fun _ _ _ => trivial)
  · subst e; exact low 2 (nI fc) (by omega) m2 (fun _ _ _ => trivial)
  · exact high _ (Or.inl ⟨e, rfl⟩)
  · exact high _ (Or.inr (Or.inl ⟨e, rfl⟩))
  · exact high _ (Or.inr (Or.inr (Or.inl ⟨e, rfl⟩)))
  · exact high _ (Or.inr (Or.inr (Or.inr ⟨rfl, h0, h1, h2, h3, h4, h5⟩)))
end
section
theorem sm_cdn {kx dx cx fx tx sp nk no nl ky d1 d2 po nbd cs : Nat → Int32} {sc mc uc us nb RM : Nat} {dk dp df pl pd pc pf cd : Int32} (hD : sm_DR kx dx cx fx tx sp nk no nl ky d1 d2 po nbd cs sc mc uc us nb RM dk dp df pl pd pc pf cd) : ∃ n, n ≤ 4 ∧ cd = nI n := by
  rcases hD.2.2 with ⟨_, _, _, e, _⟩ | ⟨D, _, _, _, _, _, _, z0, z1⟩
  · exact ⟨0, by omega, e⟩
  · by_cases hz : D = 0
    · exact ⟨0, by omega, (z0 hz).2.2⟩
    · obtain ⟨dr, ud, _, _, _, _, _, ⟨_, e, _⟩ | ⟨L, hL, _, kL, _, lL, tp, tc, e, T, hT, hT2⟩⟩ := z1 hz
      · exact ⟨0, by omega, e⟩
      · exact ⟨_, sm_sd_le _ fun m hm => (hT2 m (by omega)).1, e⟩
theorem i_vc_pending {k : Nat} {u : SX} {v : SY} (I : i_Rel k u v) (hk : k + 5 ≤ 2564) (v1 : Int32) : wpX_pending (fun r => wpY_pending (fun r' v' => r' = r ∧ i_Rel (k + 5) u v') v v1) u v1 := by
  refine sm_el (P := fun u v => wpX_pending (fun r => wpY_pending (fun r' v' => r' = r ∧ i_Rel (k + 5) u v') v v1) u v1) ?_ I
  intro uc cost rk ML SL FL RM sc fc mc us nb xa xb dk dp df pl pd pc pf cd xfr xht ydp yfr yht yst yfa kx dx cx fx tx sp fp ff ft rt ag wk nk no nl cs cn cb fM fA fI fB fP fF vx bx md mo ky d1 d2 po bo fo nbd ck rA rN rD rC rO rX vY bY hN hC hD
  obtain ⟨n, hn4, rfl⟩ := sm_cdn hD
  have J : ∀ (n' : Nat) (c' : Nat → Int32), i_Rel (k + 5) (xa, xb, nI ML, nI SL, nI FL, nI RM, nI sc, nI fc, nI mc, nI us, dk, dp, df, pl, pd, pc, pf, nI n, xfr, xht, kx, dx, cx, fx, tx, sp, fp, ff, ft, rt, ag, wk, nk, no, nl, cs, cn, cb, fM, fA, fI, fB, fP, fF, vx, bx) (nI RM, nI nb, nI us, dk, pl, pd, pc, nI n', yfr, yht, yst, yfa, md, mo, ky, d1, d2, po, bo, fo, nk, no, nbd, nl, cn, cb, c', rA, rN, rD, rC, rO, rX, vY, bY) := fun n c' => sm_in hN hC hD
  unfold wpY_pending
  refine br_c (fun hp => sm_rep hN hC hD (fun n' c' e1 e2 e3 => br_t hp ⟨rfl, J n' c'⟩)) (fun hp => ?_)
  by_cases hv : v1 < 0
  · exact br_f (fun z => Int32.not_le.mpr hv z) (sm_rep hN hC hD (fun n' c' e1 e2 e3 => br_f hp (br_t hv ⟨rfl, J n' c'⟩)))
  · obtain ⟨q, hq, rfl⟩ := nI_of hv
    refine br_t (nI_pos' hq) ?_
    have lt3 : ∀ n', n' ≤ 4 → q < 3 → nI q < 3 + nI n' := by
      intro n' hn' h3
      rw [show (3 : Int32) + nI n' = nI (3 + n') from nI_add 3 n']
      exact nI_lt (by omega) (by omega)
    by_cases q0 : q = 0
    · subst q0
      exact br_t rfl (sm_rep hN hC hD (fun n' c' e1 e2 e3 => br_f hp (br_f hv (br_t (lt3 n' e2 (by omega)) (br_t rfl ⟨rfl, J n' c'⟩)))))
    · have f0 : ¬ nI q = 0 := nI_ne0 (by omega) hq
      refine br_f f0 ?_
      by_cases q1 : q = 1
      · subst q1
        exact br_t rfl (sm_rep hN hC hD (fun n' c' e1 e2 e3 => br_f hp (br_f hv (br_t (lt3 n' e2 (by omega)) (br_f f0 (br_t rfl ⟨rfl, J n' c'⟩))))))
      · have f1 : ¬ nI q = 1 := fun e => q1 (sm_inj (b := 1) e hq (by omega))
        refine br_f f1 ?_
        by_cases q2 : q = 2
        · subst q2
          exact br_t rfl (sm_rep hN hC hD (fun n' c' e1 e2 e3 => br_f hp (br_f hv (br_t (lt3 n' e2 (by omega)) (br_f f0 (br_f f1 (br_t rfl ⟨rfl, J n' c'⟩)))))))
        · have f2 : ¬ nI q = 2 := fun e => q2 (sm_inj (b := 2) e hq (by omega))
          refine br_f f2 ?_
          have e3' : nI q - 3 = nI (q - 3) := pk_sub (b := 3) (by omega)
          rw [e3']
          by_cases c : n ≤ q - 3
          · refine br_t (nI_le c (by omega)) (sm_rep hN hC hD (fun n' c' e1 e2 e3 => br_f hp (br_f hv (br_f ?_ ⟨rfl, J n' c'⟩))))
            have en : n = n' := sm_inj (e1) (by omega) (by omega)
            subst en
            show ¬ nI q < 3 + nI n
            rw [show (3 : Int32) + nI n = nI (3 + n) from nI_add 3 n]
            exact nI_nlt (by omega) hq
          · have i4 : vp_in (nI (q - 3)) 4 := vp_in_nI (by omega) (by omega)
            refine br_f (nI_ge (by omega) (by omega)) ⟨i4, sm_rep hN hC hD (fun n' c' e1 e2 e3 => br_f hp (br_f hv (br_t ?_ (br_f f0 (br_f f1 (br_f f2 ?_))))))⟩
            · have en : n = n' := sm_inj (e1) (by omega) (by omega)
              subst en
              show nI q < 3 + nI n
              rw [show (3 : Int32) + nI n = nI (3 + n) from nI_add 3 n]
              exact nI_lt (by omega) (by omega)
            · have en : n = n' := sm_inj (e1) (by omega) (by omega)
              refine ⟨i4, ?_, J n' c'⟩
              rw [nI_clamp (by omega)]
              exact e3 _ (by omega)
end
section
section sm_P
variable {sc fc mc uc nb sc' mc' uc' nb' : Nat} {cost rk cost' rk' : Nat → Nat} {kx dx cx fx tx sp fp ff ft rt ag wk nk no nl ky d1 d2 po bo fo nbd kx' dx' cx' fx' tx' sp' fp' ff' ft' rt' ag' wk' nk' no' nl' ky' d1' d2' po' bo' fo' nbd' : Nat → Int32}
theorem sm_ro_lt (hm : mc ≤ 16) (h : ∀ q, q < mc → sm_Mod kx dx cx fx tx ky d1 d2 bo fo rt ag wk nk no nl nbd cost rk uc nb q) : ∀ m, m < mc → sm_ro rt m < mc := by
  intro m hm'
  obtain ⟨_, _, r, hr, e, _⟩ := h m hm'
  unfold sm_ro
  rw [e, nI_clamp (by omega)]
  omega
theorem sm_CL3 (E : sm_Eq sc fc mc uc nb cost rk cost' rk' kx dx cx fx tx sp fp ff ft rt ag wk nk no nl ky d1 d2 po bo fo nbd kx' dx' cx' fx' tx' sp' fp' ff' ft' rt' ag' wk' nk' no' nl' ky' d1' d2' po' bo' fo' nbd') (hs8 : sc ≤ 8) (hm : mc ≤ 16) (hf6 : fc ≤ 6) (hnb : nb ≤ 22) (hu : uc ≤ uc') (hb : nb ≤ nb') (hsc : sc ≤ sc') (hmc : mc ≤ mc') (hx : ∀ k, uc ≤ k → k < uc' → ∀ b, b < nb → ¬ nbd' k = nI b) (h : sm_CL sc fc mc uc nb cost rk kx dx cx fx tx sp fp ff ft rt ag wk nk no nl ky d1 d2 po bo fo nbd) :
    (∀ s, s < sc → sm_Sig kx' dx' cx' ky' d1' d2' sp' po' s) ∧ (∀ q, q < mc → sm_Mod kx' dx' cx' fx' tx' ky' d1' d2' bo' fo' rt' ag' wk' nk' no' nl' nbd' cost' rk' uc' nb' q) ∧ (∀ f, f < fc → sm_Fun kx' dx' cx' fx' tx' ky' d1' d2' po' bo' fp' ff' ft' nk' no' nl' nbd' uc' sc' mc' nb' f) := by
  obtain ⟨_, _, Sg, Md, Fn⟩ := h
  exact ⟨fun s hs => sm_Sig_congr E hs (Sg s hs), fun q hq => sm_Mod_congr E hm hnb (sm_ro_lt hm Md) hu hb hx hq (Md q hq), fun f hf => sm_Fun_congr E hf6 hs8 hm hnb hu hb hsc hmc hx hf (Fn f hf)⟩
theorem sm_CL_draft (hs8 : sc ≤ 8) (hm : mc ≤ 16) (hf6 : fc ≤ 6) (hnb : nb ≤ 22)
    (h1 : ∀ r, 1 ≤ r → sm_mx kx' r = sm_mx kx r ∧ sm_mx dx' r = sm_mx dx r ∧ sm_mx cx' r = sm_mx cx r ∧ sm_mx fx' r = sm_mx fx r ∧ sm_mx tx' r = sm_mx tx r)
    (h2 : ∀ r, 1 ≤ r → sm_mx ky' r = sm_mx ky r ∧ sm_mx d1' r = sm_mx d1 r ∧ sm_mx d2' r = sm_mx d2 r) (h3 : ∀ r, 1 ≤ r → po' r = po r)
    (h4 : ∀ k, k < uc → nk' k = nk k ∧ no' k = no k ∧ nl' k = nl k ∧ nbd' k = nbd k) (h : sm_CL sc fc mc uc nb cost rk kx dx cx fx tx sp fp ff ft rt ag wk nk no nl ky d1 d2 po bo fo nbd) : sm_CL sc fc mc uc nb cost rk kx' dx' cx' fx' tx' sp fp ff ft rt ag wk nk' no' nl' ky' d1' d2' po' bo fo nbd' := by
  have E : sm_Eq sc fc mc uc nb cost rk cost rk kx dx cx fx tx sp fp ff ft rt ag wk nk no nl ky d1 d2 po bo fo nbd kx' dx' cx' fx' tx' sp fp ff ft rt ag wk nk' no' nl' ky' d1' d2' po' bo fo nbd' := by
    refine ⟨fun r hr => h1 r ?_, fun r hr => h2 r ?_, fun _ _ => rfl, fun _ _ => ⟨rfl, rfl, rfl⟩, fun _ _ => ⟨rfl, rfl⟩, fun _ _ => ⟨rfl, rfl, rfl⟩, h4, fun r hr => ⟨h3 r ?_, rfl, rfl⟩⟩
    · unfold sm_lx at hr; omega
    · unfold sm_ly at hr; omega
    · unfold sm_lz at hr; omega
  refine ⟨h.1, fun k hk => ?_, sm_CL3 E hs8 hm hf6 hnb (Nat.le_refl _) (Nat.le_refl _) (Nat.le_refl _) (Nat.le_refl _) (fun k a b => absurd a (by omega)) h⟩
  rw [(h4 k hk).2.2.2]
  exact h.2.1 k hk
end sm_P
section sm_X
variable {xa xb xml xsl xfl xrm xsc xfc xmc xus dk dp df pl pd pc pf cd xfr xht : Int32} {kx dx cx fx tx sp fp ff ft rt ag wk nk no nl cs cn cb fM fA fI fB fP fF vx bx : Nat → Int32}
theorem sm_xopl {post : Int32 → SX → Prop} (h : post 0 (xa, xb, xml, xsl, xfl, xrm, xsc, xfc, xmc, xus, dk, dp, df, pl, pd, pc, pf, cd, xfr, xht, sm_zr kx 8, dx, cx, fx, tx, sp, fp, ff, ft, rt, ag, wk, nk, no, nl, cs, cn, cb, fM, fA, fI, fB, fP, fF, vx, bx)) : ∃ n : Nat, wX_open_84 post xa xb xml xsl xfl xrm xsc xfc xmc xus dk dp df pl pd pc pf cd xfr xht n 0 kx dx cx fx tx sp fp ff ft rt ag wk nk no nl cs cn cb fM fA fI fB fP fF vx bx := by
  have key : ∀ d i, i + d = 8 → wX_open_84 post xa xb xml xsl xfl xrm xsc xfc xmc xus dk dp df pl pd pc pf cd xfr xht (d + 1) (nI i) (sm_zr kx i) dx cx fx tx sp fp ff ft rt ag wk nk no nl cs cn cb fM fA fI fB fP fF vx bx := by
    intro d
    induction d with
    | zero =>
      intro i hi
      have e : i = 8 := by omega
      subst e
      exact br_t (by decide) h
    | succ d ih =>
      intro i hi
      refine br_f (sm_n8 (by omega)) ⟨vp_in_nI (by omega) (by omega), nm_r (e' := sm_zr kx (i + 1)) ?_ (nm_r (nI_1 i) (ih (i + 1) (by omega)))⟩
      rw [nI_clamp (by omega)]
      exact sm_zrs
  have K := key 8 0 rfl
  simp only [sm_zr0, nI_0] at K
  exact ⟨9, K⟩
end sm_X
section sm_Y
variable {yrm ynb yus ydk ypl ypd ypc ydp yfr yht yst yfa : Int32} {md mo ky d1 d2 po bo fo ynk yno nbd ynl ycn ycb ck rA rN rD rC rO rX vY bY : Nat → Int32}
theorem sm_yopl {post : Int32 → SY → Prop} (h : post 0 (yrm, ynb, yus, ydk, ypl, ypd, ypc, ydp, yfr, yht, yst, yfa, md, mo, sm_zr ky 8, d1, d2, po, bo, fo, ynk, yno, nbd, ynl, ycn, ycb, ck, rA, rN, rD, rC, rO, rX, vY, bY)) : ∃ n : Nat, wY_open_95 post yrm ynb yus ydk ypl ypd ypc ydp yfr yht yst yfa n 0 md mo ky d1 d2 po bo fo ynk yno nbd ynl ycn ycb ck rA rN rD rC rO rX vY bY := by
  have key : ∀ d i, i + d = 8 → wY_open_95 post yrm ynb yus ydk ypl ypd ypc ydp yfr yht yst yfa (d + 1) (nI i) md mo (sm_zr ky i) d1 d2 po bo fo ynk yno nbd ynl ycn ycb ck rA rN rD rC rO rX vY bY := by
    intro d
    induction d with
    | zero =>
      intro i hi
      have e : i = 8 := by omega
      subst e
      exact br_t (by decide) h
    | succ d ih =>
      intro i hi
      refine br_f (sm_n8 (by omega)) ⟨vp_in_nI (by omega) (by omega), nm_r (e' := sm_zr ky (i + 1)) ?_ (nm_r (nI_1 i) (ih (i + 1) (by omega)))⟩
      rw [nI_clamp (by omega)]
      exact sm_zrs
  have K := key 8 0 rfl
  simp only [sm_zr0, nI_0] at K
  exact ⟨9, K⟩
end sm_Y
section sm_R
variable {ML SL FL RM sc fc mc us nb : Nat} {xa xb dk dp df pl pd pc pf cd xfr xht ydp yfr yht yst yfa : Int32} {kx dx cx fx tx sp fp ff ft rt ag wk nk no nl cs cn cb fM fA fI fB fP fF vx bx md mo ky d1 d2 po bo fo nbd ck rA rN rD rC rO rX vY bY : Nat → Int32}
variable {uc : Nat} {cost rk : Nat → Nat}
theorem sm_open_R {k D : Nat} {dp' : Int32} (hN : sm_Num ML SL FL RM sc fc mc nb md mo) (hC : sm_CL sc fc mc uc nb cost rk kx dx cx fx tx sp fp ff ft rt ag wk nk no nl ky d1 d2 po bo fo nbd) (hD : sm_DR kx dx cx fx tx sp nk no nl ky d1 d2 po nbd cs sc mc uc us nb RM dk dp df pl pd pc pf cd) (h0 : dk = -1) (hD2 : D ≤ 2) (hp : dp' = -1 ∨ ∃ p, p < sc ∧ dp' = nI p ∧ sp p = -1) (h1 : D = 1 → dp' = -1) (h2 : D = 2 → dp' ≠ -1) :
    i_Rel k (xa, xb, nI ML, nI SL, nI FL, nI RM, nI sc, nI fc, nI mc, nI us, nI D, dp', nI us, pl, pd, pc, pf, cd, xfr, xht, sm_zr kx 8, dx, cx, fx, tx, sp, fp, ff, ft, rt, ag, wk, nk, no, nl, cs, cn, cb, fM, fA, fI, fB, fP, fF, vx, bx) (nI RM, nI nb, nI us, nI D, pl, pd, pc, ydp, yfr, yht, yst, yfa, md, mo, sm_zr ky 8, d1, d2, upd po 0 dp', bo, fo, nk, no, nbd, nl, cn, cb, ck, rA, rN, rD, rC, rO, rX, vY, bY) := by
  have hN' := hN
  obtain ⟨⟨n1, n2, n3, n4, n5, n6, n7⟩, ⟨hsc, hmc, hfc, hnb⟩, _, _⟩ := hN'
  obtain ⟨⟨u1, u2⟩, hG, hD⟩ := hD
  rcases hD with ⟨_, rfl, rfl, rfl, rfl⟩ | ⟨D', ⟨_, e, _⟩, _⟩
  · have zx : ∀ r, 1 ≤ r → sm_mx (sm_zr kx 8) r = sm_mx kx r := fun r hr => sm_zro (by omega)
    have zy : ∀ r, 1 ≤ r → sm_mx (sm_zr ky 8) r = sm_mx ky r := fun r hr => sm_zro (by omega)
    have z0 : ∀ l, sm_mx (sm_zr kx 8) 0 l = 0 := fun l => sm_zrt l
    have n2' : ∀ l, ¬ sm_mx (sm_zr kx 8) 0 l = 2 := fun l => by rw [z0]; decide
    refine sm_in (uc := uc) (cost := cost) (rk := rk) hN ?_ ⟨⟨u1, u2⟩, fun k a b => absurd a (by omega), Or.inr ⟨D, ⟨hD2, rfl, rfl, pk_us⟩, hp, h1, h2, fun l => ⟨?_, Or.inl (z0 l)⟩, fun l hl => absurd (z0 l) hl, fun _ => ⟨rfl, rfl, rfl⟩, fun _ => ⟨fun _ => 0, uc, Nat.le_refl _, Nat.le_refl _, fun l _ e => absurd e (n2' l), fun l _ e => absurd e (n2' l), fun k a b => absurd a (by omega), Or.inl ⟨rfl, rfl, rfl⟩⟩⟩⟩
    · exact sm_CL_draft (by omega) (by omega) (by omega) (by omega) (fun r hr => ⟨zx r hr, rfl, rfl, rfl, rfl⟩) (fun r hr => ⟨zy r hr, rfl, rfl⟩) (fun r hr => pk_un (by omega)) (fun _ _ => ⟨rfl, rfl, rfl, rfl⟩) hC
    · rw [z0]; exact sm_zrt l
  · rw [h0] at e
    exact absurd e.symm (sm_ne1 (by omega))
end sm_R
theorem i_vc_open {k : Nat} {u : SX} {v : SY} (I : i_Rel k u v) (hk : k + 5 ≤ 2564) (v1 : Int32) (v2 : Int32) : wpX_open (fun r u' => wpY_open (fun r' v' => r' = r ∧ i_Rel (k + 5) u' v') v v1 v2) u v1 v2 := by
  refine sm_el (P := fun u v => i_Rel (k + 5) u v → wpX_open (fun r u' => wpY_open (fun r' v' => r' = r ∧ i_Rel (k + 5) u' v') v v1 v2) u v1 v2) ?_ I (i_up I)
  intro uc cost rk ML SL FL RM sc fc mc us nb xa xb dk dp df pl pd pc pf cd xfr xht ydp yfr yht yst yfa kx dx cx fx tx sp fp ff ft rt ag wk nk no nl cs cn cb fM fA fI fB fP fF vx bx md mo ky d1 d2 po bo fo nbd ck rA rN rD rC rO rX vY bY hN hC hD J
  have hN' := hN
  obtain ⟨⟨n1, n2, n3, n4, n5, n6, n7⟩, ⟨hsc, hmc, hfc, hnb⟩, ⟨m0, m1, m2⟩, _⟩ := hN'
  have Sg := hC.2.2.1
  by_cases hdk : dk < 0
  · have h0 : dk = -1 := by
      rcases hD.2.2 with ⟨e, _⟩ | ⟨D', ⟨_, e, _⟩, _⟩
      · exact e
      · rw [e] at hdk; exact absurd hdk (nI_pos (by omega))
    refine br_t hdk ?_
    by_cases hv : v1 < 0
    · exact br_t hv (br_t hdk (br_t hv ⟨rfl, J⟩))
    · obtain ⟨D, hD31, rfl⟩ := nI_of hv
      refine br_f hv ?_
      by_cases hD2 : D ≤ 2
      · have dl2 : nI D ≤ 2 := nI_le (b := 2) hD2 (by decide)
        refine br_t dl2 ?_
        have ok : ∀ dp' : Int32, (dp' = -1 ∨ ∃ p, p < sc ∧ dp' = nI p ∧ sp p = -1) → (D = 1 → dp' = -1) → (D = 2 → dp' ≠ -1) → i_Rel (k + 5) (xa, xb, nI ML, nI SL, nI FL, nI RM, nI sc, nI fc, nI mc, nI us, nI D, dp', nI us, pl, pd, pc, pf, cd, xfr, xht, sm_zr kx 8, dx, cx, fx, tx, sp, fp, ff, ft, rt, ag, wk, nk, no, nl, cs, cn, cb, fM, fA, fI, fB, fP, fF, vx, bx) (nI RM, nI nb, nI us, nI D, pl, pd, pc, ydp, yfr, yht, yst, yfa, md, mo, sm_zr ky 8, d1, d2, upd po 0 dp', bo, fo, nk, no, nbd, nl, cn, cb, ck, rA, rN, rD, rC, rO, rX, vY, bY) := fun dp' a b c => sm_open_R hN hC hD h0 hD2 a b c
        have Y71 : ∀ (q : Int32 → SY → Prop) (dp' : Int32), (D = 1 → dp' = -1) → (D ≠ 1 → dp' = v2) → q 0 (nI RM, nI nb, nI us, nI D, pl, pd, pc, ydp, yfr, yht, yst, yfa, md, mo, sm_zr ky 8, d1, d2, upd po 0 dp', bo, fo, nk, no, nbd, nl, cn, cb, ck, rA, rN, rD, rC, rO, rX, vY, bY) → wY_open_71 q (nI D) v2 (nI RM) (nI nb) (nI us) dk pl pd pc ydp yfr yht yst yfa md mo ky d1 d2 po bo fo nk no nbd nl cn cb ck rA rN rD rC rO rX vY bY := by
          intro q dp' a b h
          by_cases e : D = 1
          · subst e
            rw [a rfl] at h
            exact br_t rfl (nm_e (sm_yopl h))
          · rw [b e] at h
            exact br_f (fun z => e (sm_inj (b := 1) z hD31 (by omega))) (nm_e (sm_yopl h))
        have Yf : ∀ (q : Int32 → SY → Prop) (z : Prop), ((∃ p, p < sc ∧ v2 = nI p ∧ sp p = -1) → wY_open_47 q (nI D) v2 1 (nI RM) (nI nb) (nI us) dk pl pd pc ydp yfr yht yst yfa md mo ky d1 d2 po bo fo nk no nbd nl cn cb ck rA rN rD rC rO rX vY bY) → ((∀ p, p < sc → v2 = nI p → ¬ sp p = -1) → wY_open_47 q (nI D) v2 0 (nI RM) (nI nb) (nI us) dk pl pd pc ydp yfr yht yst yfa md mo ky d1 d2 po bo fo nk no nbd nl cn cb ck rA rN rD rC rO rX vY bY) → wpY_open q (nI RM, nI nb, nI us, dk, pl, pd, pc, ydp, yfr, yht, yst, yfa, md, mo, ky, d1, d2, po, bo, fo, nk, no, nbd, nl, cn, cb, ck, rA, rN, rD, rC, rO, rX, vY, bY) (nI D) v2 := by
          intro q z a b
          refine br_t hdk (br_f hv (br_t dl2 ?_))
          refine sm_yf0 (by omega) m0 (fun hn => br_t sm_n1lt (b fun p hp e => absurd e (hn p hp))) (fun j hj e => ?_)
          subst e
          refine br_f (nI_pos (by omega)) ⟨vp_in_nI (by omega) (by omega), ?_⟩
          rw [nI_clamp (by omega), (Sg j hj).2.1]
          exact br_c (fun e => a ⟨j, hj, rfl, e⟩) (fun e => b fun p hp e2 => by rw [← sm_inj e2 (by omega) (by omega)]; exact e)
        by_cases e1 : D = 1
        · subst e1
          refine br_t rfl ?_
          show wX_open_40 _ (nI 1) v2 1 xa xb (nI ML) (nI SL) (nI FL) (nI RM) (nI sc) (nI fc) (nI mc) (nI us) dk dp df pl pd pc pf cd xfr xht kx dx cx fx tx sp fp ff ft rt ag wk nk no nl cs cn cb fM fA fI fB fP fF vx bx
          refine br_f (by decide) (br_f (by decide) (sm_xopl ?_))
          refine Yf _ True (fun _ => br_t rfl (Y71 _ (-1) (fun _ => rfl) (fun z => absurd rfl z) ⟨rfl, ok _ (Or.inl rfl) (fun _ => rfl) (by omega)⟩)) (fun _ => br_t rfl (Y71 _ (-1) (fun _ => rfl) (fun z => absurd rfl z) ⟨rfl, ok _ (Or.inl rfl) (fun _ => rfl) (by omega)⟩))
        · have f1 : ¬ nI D = 1 := fun z => e1 (sm_inj (b := 1) z hD31 (by omega))
          refine br_f f1 ?_
          have rest : ((D = 0 → v2 ≠ -1)) → wX_open_39 (fun r u' => wpY_open (fun r' v' => r' = r ∧ i_Rel (k + 5) u' v') (nI RM, nI nb, nI us, dk, pl, pd, pc, ydp, yfr, yht, yst, yfa, md, mo, ky, d1, d2, po, bo, fo, nk, no, nbd, nl, cn, cb, ck, rA, rN, rD, rC, rO, rX, vY, bY) (nI D) v2) (nI D) v2 xa xb (nI ML) (nI SL) (nI FL) (nI RM) (nI sc) (nI fc) (nI mc) (nI us) dk dp df pl pd pc pf cd xfr xht kx dx cx fx tx sp fp ff ft rt ag wk nk no nl cs cn cb fM fA fI fB fP fF vx bx := by
            intro hne
            show wX_open_40 _ (nI D) v2 0 xa xb (nI ML) (nI SL) (nI FL) (nI RM) (nI sc) (nI fc) (nI mc) (nI us) dk dp df pl pd pc pf cd xfr xht kx dx cx fx tx sp fp ff ft rt ag wk nk no nl cs cn cb fM fA fI fB fP fF vx bx
            refine br_t rfl (sm_xind (by omega) (fun hn => br_t rfl ?_) (fun j hj e hs => br_f (by decide) ?_))
            · refine Yf _ True (fun ⟨p, hp, e, es⟩ => absurd es (hn p hp e)) (fun _ => br_f f1 (br_t rfl (br_c (fun _ => ⟨rfl, J⟩) (fun z2 => br_f (hne ?_) ⟨rfl, J⟩))))
              have : D ≠ 2 := fun e => z2 (by rw [e]; rfl)
              omega
            · subst e
              show wX_open_55 _ (nI D) (nI j) 0 xa xb (nI ML) (nI SL) (nI FL) (nI RM) (nI sc) (nI fc) (nI mc) (nI us) dk dp df pl pd pc pf cd xfr xht kx dx cx fx tx sp fp ff ft rt ag wk nk no nl cs cn cb fM fA fI fB fP fF vx bx
              refine br_t rfl (sm_xopl ?_)
              refine Yf _ True (fun _ => br_f f1 (br_f (by decide) (Y71 _ (nI j) (fun z => absurd z e1) (fun _ => rfl) ⟨rfl, ok _ (Or.inr ⟨j, hj, rfl, hs⟩) (fun z => absurd z e1) (fun _ => sm_ne1 (by omega))⟩))) (fun hn => absurd hs (hn j hj rfl))
          by_cases e0 : D = 0
          · subst e0
            refine br_t rfl ?_
            by_cases ev : v2 = -1
            · subst ev
              refine br_t rfl ?_
              show wX_open_40 _ (nI 0) (-1) 1 xa xb (nI ML) (nI SL) (nI FL) (nI RM) (nI sc) (nI fc) (nI mc) (nI us) dk dp df pl pd pc pf cd xfr xht kx dx cx fx tx sp fp ff ft rt ag wk nk no nl cs cn cb fM fA fI fB fP fF vx bx
              refine br_f (by decide) (br_f (by decide) (sm_xopl ?_))
              refine Yf _ True (fun ⟨p, hp, e, _⟩ => absurd e.symm (sm_ne1 (by omega))) (fun _ => br_f f1 (br_t rfl (br_f (by decide) (br_t rfl (Y71 _ (-1) (fun z => absurd z e1) (fun _ => rfl) ⟨rfl, ok _ (Or.inl rfl) (fun z => absurd z e1) (by omega)⟩)))))
            · exact br_f ev (rest fun _ => ev)
          · exact br_f (nI_ne0 (by omega) hD31) (rest fun z => absurd z e0)
      · have dl2 : ¬ nI D ≤ 2 := nI_ge (a := 2) (by omega) hD31
        exact br_f dl2 (br_t hdk (br_f hv (br_f dl2 ⟨rfl, J⟩)))
  · exact br_f hdk (br_f hdk ⟨rfl, J⟩)
end
section
theorem sm_c1_0 {x : Int32} (h : x = 0) : sm_c1 x = 0 := if_pos h
theorem sm_c1_1 {x : Int32} (h : ¬ x = 0) : sm_c1 x = 1 := if_neg h
theorem sm_c1_le (x : Int32) : sm_c1 x ≤ 1 := by
  unfold sm_c1; split <;> omega
theorem sm_cnt_le (k : Nat → Int32) : sm_cnt k ≤ 8 := by
  have := sm_c1_le (k 0); have := sm_c1_le (k 1); have := sm_c1_le (k 2); have := sm_c1_le (k 3)
  have := sm_c1_le (k 4); have := sm_c1_le (k 5); have := sm_c1_le (k 6); have := sm_c1_le (k 7)
  unfold sm_cnt
  omega
theorem sm_cnt_up {k k' : Nat → Int32} {L : Nat} (hL : L < 8) (h0 : k L = 0) (h1 : ¬ k' L = 0) (ho : ∀ l, l < 8 → l ≠ L → k' l = k l) : sm_cnt k' = sm_cnt k + 1 := by
  have a0 := sm_c1_0 h0
  have a1 := sm_c1_1 h1
  have o : ∀ l, l < 8 → l ≠ L → sm_c1 (k' l) = sm_c1 (k l) := fun l a b => by rw [ho l a b]
  unfold sm_cnt
  have hc : L = 0 ∨ L = 1 ∨ L = 2 ∨ L = 3 ∨ L = 4 ∨ L = 5 ∨ L = 6 ∨ L = 7 := by omega
  rcases hc with rfl | rfl | rfl | rfl | rfl | rfl | rfl | rfl
  · have := o 1 (by omega) (by omega); have := o 2 (by omega) (by omega); have := o 3 (by omega) (by omega); have := o 4 (by omega) (by omega); have := o 5 (by omega) (by omega); have := o 6 (by omega) (by omega); have := o 7 (by omega) (by omega); omega
  · have := o 0 (by omega) (by omega); have := o 2 (by omega) (by omega); have := o 3 (by omega) (by omega); have := o 4 (by omega) (by omega); have := o 5 (by omega) (by omega); have := o 6 (by omega) (by omega); have := o 7 (by omega) (by omega); omega
  · have := o 0 (by omega) (by omega); have := o 1 (by omega) (by omega); have := o 3 (by omega) (by omega); have := o 4 (by omega) (by omega); have := o 5 (by omega) (by omega); have := o 6 (by omega) (by omega); have := o 7 (by omega) (by omega); omega
  · have := o 0 (by omega) (by omega); have := o 1 (by omega) (by omega); have := o 2 (by omega) (by omega); have := o 4 (by omega) (by omega); have := o 5 (by omega) (by omega); have := o 6 (by omega) (by omega); have := o 7 (by omega) (by omega); omega
  · have := o 0 (by omega) (by omega); have := o 1 (by omega) (by omega); have := o 2 (by omega) (by omega); have := o 3 (by omega) (by omega); have := o 5 (by omega) (by omega); have := o 6 (by omega) (by omega); have := o 7 (by omega) (by omega); omega
  · have := o 0 (by omega) (by omega); have := o 1 (by omega) (by omega); have := o 2 (by omega) (by omega); have := o 3 (by omega) (by omega); have := o 4 (by omega) (by omega); have := o 6 (by omega) (by omega); have := o 7 (by omega) (by omega); omega
  · have := o 0 (by omega) (by omega); have := o 1 (by omega) (by omega); have := o 2 (by omega) (by omega); have := o 3 (by omega) (by omega); have := o 4 (by omega) (by omega); have := o 5 (by omega) (by omega); have := o 7 (by omega) (by omega); omega
  · have := o 0 (by omega) (by omega); have := o 1 (by omega) (by omega); have := o 2 (by omega) (by omega); have := o 3 (by omega) (by omega); have := o 4 (by omega) (by omega); have := o 5 (by omega) (by omega); have := o 6 (by omega) (by omega); omega
theorem sm_Bo_k {k f t k' f' t' nk no nl nbd : Nat → Int32} {u b lim : Nat} {P1 : Nat → Prop} {P2 : Nat → Nat → Prop} {dr : Nat → Nat} {Q : Nat → Nat → Nat → Prop}
    (h1 : ∀ l, l < 8 → k l = 2 → k' l = 2 ∧ f' l = f l ∧ t' l = t l) (h2 : ∀ l, l < 8 → k' l = 2 → k l = 2 ∨ ∃ a c, sm_B1 k' f' t' nk no nl nbd u b P1 P2 lim dr Q l a c)
    (h : sm_Bo k f t nk no nl nbd u b P1 P2 lim dr Q) : sm_Bo k' f' t' nk no nl nbd u b P1 P2 lim dr Q := by
  intro l hl hk
  rcases h2 l hl hk with hk' | g
  · obtain ⟨a, c, e1, e2, o, d, s, ca, q⟩ := h l hl hk'
    obtain ⟨g1, g2, g3⟩ := h1 l hl hk'
    refine ⟨a, c, g2.trans e1, g3.trans e2, o, d, s, fun i i1 i2 i3 => ?_, q⟩
    obtain ⟨W, hW, eW, c0, c1, c2⟩ := ca i i1 i2 i3
    refine ⟨W, hW, eW, fun z => ?_, c1, c2⟩
    obtain ⟨x1, x2, x3, x4, x5⟩ := c0 z
    obtain ⟨y1, _, y3⟩ := h1 (W % 8) (Nat.mod_lt _ (by decide)) x1
    exact ⟨y1, x2, x3, y3.trans x4, x5⟩
  · exact g
section sm_R
variable {ML SL FL RM sc fc mc us nb : Nat} {xa xb dk dp df pl pd pc pf cd xfr xht ydp yfr yht yst yfa : Int32} {kx dx cx fx tx sp fp ff ft rt ag wk nk no nl cs cn cb fM fA fI fB fP fF vx bx md mo ky d1 d2 po bo fo nbd ck rA rN rD rC rO rX vY bY : Nat → Int32}
variable {uc D : Nat} {cost rk : Nat → Nat}
theorem sm_mn_Ts (hN : sm_Num ML SL FL RM sc fc mc nb md mo) (hC : sm_CL sc fc mc uc nb cost rk kx dx cx fx tx sp fp ff ft rt ag wk nk no nl ky d1 d2 po bo fo nbd) (h : sm_D1 kx dx cx fx tx sp nk no nl ky d1 d2 po nbd cs sc mc uc us nb D dk dp df pl pd pc pf cd) (x : Int32) : sm_mn kx dx mc dp x = -3 ∨ sm_Ts (sm_DA kx D) (sm_DN kx sc dp) (sm_mn kx dx mc dp x) := by
  have C := sm_yc_of hN hC h
  obtain ⟨c1, ⟨c2, c3, c4⟩, _⟩ := C
  obtain ⟨_, _, Sg, Md, Fn⟩ := hC
  obtain ⟨_, e5, _, _, L0, T0, _⟩ := h
  unfold sm_mn
  by_cases h1 : x = -1
  · rw [if_pos h1]
    exact Or.inr ⟨fun j hj e => absurd e.symm (sm_ne1 (by omega)), fun j hj e => absurd e.symm (sm_ne1 (by omega))⟩
  · rw [if_neg h1]
    rcases sm_cmp_sp (kx := kx) (x := x) (kind := 1) c1 c2 c3 with e | ⟨W, hW, rfl, hp, hr, hk, e⟩
    · rw [e, if_neg sm_n1le]; exact Or.inl rfl
    · have hq : W % 8 < 8 := Nat.mod_lt _ (by decide)
      rw [e, if_pos (nI_pos' (by omega)), nI_clamp hW, nI_clamp (by omega), sm_mx2 (a := dx) hq]
      have nz : sm_mx kx (sm_rw dp W) (W % 8) ≠ 0 := by rw [hk]; decide
      refine Or.inr ?_
      rcases sm_rw_c c2 hp with er | ⟨s, hs, es, h18, er⟩ | ⟨m, hm, h28, _, er⟩
      · by_cases h08 : W / 8 = 1
        · rw [sm_rw1 h08] at er; omega
        · unfold sm_lf
          rw [if_neg h08]
          rw [er] at nz ⊢
          exact (T0 _ nz).1
      · rw [er] at nz ⊢
        unfold sm_lf
        rw [if_pos h18]
        have sp0 : sp s = -1 := by
          rcases e5 with e5 | ⟨p, hp', ep, eq⟩
          · rw [e5] at es; exact absurd es.symm (sm_ne1 (by omega))
          · rw [es] at ep
            rw [sm_inj ep (by omega) (by omega)]; exact eq
        obtain ⟨_, _, _, Ts⟩ := Sg s hs
        have T := (Ts _ nz).1
        generalize sm_mx dx (1 + s) (W % 8) = t at T
        rcases sm_t4 t with h4 | ⟨j, hj, rfl⟩ | ⟨j, hj, rfl⟩ | ⟨k, h16, hk', rfl⟩
        · rw [if_pos h4]
          exact ⟨fun j hj e => absurd (e ▸ h4) (nI_pos (by omega)), fun j hj e => absurd (e ▸ h4) (nI_pos (by omega))⟩
        · rw [if_neg (nI_pos (by omega)), if_neg (sm_n8 hj), show (8 : Int32) + nI j = nI (8 + j) from nI_add 8 j]
          refine ⟨fun i hi e => ?_, fun i hi e => ?_⟩
          · have := sm_inj e (by omega) (by omega); omega
          · have := sm_inj e (by omega) (by omega)
            have : i = j := by omega
            subst this
            exact ⟨s, hs, es, T.1 i hj rfl⟩
        · obtain ⟨p, _, e, _⟩ := T.2 j hj rfl
          rw [sp0] at e
          rename_i hp'
          exact absurd e.symm (sm_ne1 (by omega))
        · rw [if_neg (nI_pos hk'), if_pos (sm_g8 (by omega) hk')]
          refine ⟨fun i hi e => ?_, fun i hi e => ?_⟩
          · have := sm_inj e hk' (by omega); omega
          · have := sm_inj e hk' (by omega); omega
      · have h08 : ¬ W / 8 = 1 := by omega
        unfold sm_lf
        rw [if_neg h08]
        rw [er] at nz ⊢
        obtain ⟨_, Tm, _⟩ := Md m hm
        exact sm_Ts_mono (fun _ _ z => z.elim) (fun _ _ z => z.elim) (Tm _ nz).1
theorem sm_put_R {k L : Nat} {kd t c w : Int32} (hN : sm_Num ML SL FL RM sc fc mc nb md mo) (hC : sm_CL sc fc mc uc nb cost rk kx dx cx fx tx sp fp ff ft rt ag wk nk no nl ky d1 d2 po bo fo nbd) (hu : uc ≤ us ∧ us ≤ RM) (hG : ∀ k, uc ≤ k → k < us → nbd k = nI nb) (h : sm_D1 kx dx cx fx tx sp nk no nl ky d1 d2 po nbd cs sc mc uc us nb D dk dp df pl pd pc pf cd) (hpl : pl < 0) (hL : L < 8) (h0 : sm_mx kx 0 L = 0) (hk : (kd = 1 ∧ c = t ∧ w = -3) ∨ (kd = 2 ∧ w = c ∧ D = 0))
    (ht : sm_Ts (sm_DA (upd kx L kd) D) (sm_DN kx sc dp) t) (hc : sm_Ts (sm_DA (upd kx L kd) D) (sm_DN kx sc dp) c) : i_Rel k (xa, xb, nI ML, nI SL, nI FL, nI RM, nI sc, nI fc, nI mc, nI us, dk, dp, df, pl, pd, pc, pf, cd, xfr, xht, upd kx L kd, upd dx L t, upd cx L c, fx, tx, sp, fp, ff, ft, rt, ag, wk, nk, no, nl, cs, cn, cb, fM, fA, fI, fB, fP, fF, vx, bx) (nI RM, nI nb, nI us, dk, pl, pd, pc, ydp, yfr, yht, yst, yfa, md, mo, upd ky L kd, upd d1 L t, upd d2 L w, po, bo, fo, nk, no, nbd, nl, cn, cb, ck, rA, rN, rD, rC, rO, rX, vY, bY) := by
  have hN' := hN
  obtain ⟨⟨n1, n2, n3, n4, n5, n6, n7⟩, ⟨hsc, hmc, hfc, hnb⟩, _, _⟩ := hN'
  have kd0 : ¬ kd = 0 := by
    rcases hk with ⟨e, _⟩ | ⟨e, _⟩ <;> rw [e] <;> decide
  have kr : ∀ r, 1 ≤ r → sm_mx (upd kx L kd) r = sm_mx kx r := fun r hr => sm_uo hL (by omega)
  have k0 : ∀ l, sm_mx (upd kx L kd) 0 l = if l % 8 = L then kd else sm_mx kx 0 l := fun l => sm_ut hL
  have kz : ∀ l, sm_mx kx 0 l ≠ 0 → sm_mx (upd kx L kd) 0 l = sm_mx kx 0 l := by
    intro l hl
    rw [k0, if_neg]
    intro e
    rw [← sm_mxm, e] at hl
    exact hl h0
  have k2 : ∀ l, sm_mx kx 0 l = 2 → sm_mx (upd kx L kd) 0 l = 2 := fun l e => by rw [kz l (by rw [e]; decide)]; exact e
  have hDA : ∀ j, j < 8 → sm_DA kx D j → sm_DA (upd kx L kd) D j := fun j _ ⟨a, b⟩ => ⟨a, by rw [kz j b]; exact b⟩
  have hDN : ∀ j, j < 8 → sm_DN kx sc dp j → sm_DN (upd kx L kd) sc dp j := fun j _ ⟨p, a, b, c⟩ => ⟨p, a, b, by rw [kr _ (by omega)]; exact c⟩
  obtain ⟨⟨e1, e2, e3, e4⟩, e5, e6, e7, L0, T0, z0, z1⟩ := h
  refine sm_in (uc := uc) (cost := cost) (rk := rk) hN ?_ ⟨hu, hG, Or.inr ⟨D, ⟨e1, e2, e3, e4⟩, e5, e6, e7, fun l => ?_, fun l hl => ?_, z0, fun hz => ?_⟩⟩
  · exact sm_CL_draft (by omega) (by omega) (by omega) (by omega) (fun r hr => ⟨kr r hr, sm_uo hL (by omega), sm_uo hL (by omega), rfl, rfl⟩) (fun r hr => ⟨sm_uo hL (by omega), sm_uo hL (by omega), sm_uo hL (by omega)⟩) (fun _ _ => rfl) (fun _ _ => ⟨rfl, rfl, rfl, rfl⟩) hC
  · rw [sm_ut hL, sm_ut hL, sm_ut hL, sm_ut hL, sm_ut hL, sm_ut hL]
    by_cases e : l % 8 = L
    · rw [if_pos e, if_pos e, if_pos e, if_pos e, if_pos e, if_pos e]
      refine ⟨rfl, ?_⟩
      rcases hk with ⟨a, b, c⟩ | ⟨a, b, _⟩
      · exact Or.inr (Or.inl ⟨a, b, rfl, c⟩)
      · exact Or.inr (Or.inr ⟨a, rfl, b⟩)
    · rw [if_neg e, if_neg e, if_neg e, if_neg e, if_neg e, if_neg e]
      exact L0 l
  · rw [sm_ut hL, sm_ut hL]
    by_cases e : l % 8 = L
    · rw [if_pos e, if_pos e]
      exact ⟨sm_Ts_mono (fun _ _ z => z) hDN ht, sm_Ts_mono (fun _ _ z => z) hDN hc⟩
    · rw [if_neg e, if_neg e]
      rw [k0, if_neg e] at hl
      exact ⟨sm_Ts_mono hDA hDN (T0 l hl).1, sm_Ts_mono hDA hDN (T0 l hl).2⟩
  · have kd1 : kd = 1 := by
      rcases hk with ⟨a, _⟩ | ⟨_, _, a⟩
      · exact a
      · exact absurd a hz
    obtain ⟨dr, ud, g1, g2, g3, g4, g5, g6⟩ := z1 hz
    have r2 : ∀ l, sm_mx (upd kx L kd) 0 l = 2 → sm_mx kx 0 l = 2 := by
      intro l e
      rw [k0] at e
      by_cases q : l % 8 = L
      · rw [if_pos q, kd1] at e; exact absurd e (by decide)
      · rw [if_neg q] at e; exact e
    have up := sm_cnt_up (k := sm_mx kx 0) (k' := sm_mx (upd kx L kd) 0) hL h0 (by rw [k0, Nat.mod_eq_of_lt hL, if_pos rfl]; exact kd0) (fun l hl hn => by rw [k0, Nat.mod_eq_of_lt hl, if_neg hn])
    refine ⟨dr, ud, g1, g2, fun l hl e => ?_, ?_, fun i i1 i2 => ?_, ?_⟩
    · have := g3 l hl (r2 l e); omega
    · refine sm_Bo_k (fun l hl e => ⟨k2 l e, rfl, rfl⟩) (fun l hl e => Or.inl (r2 l e)) ?_
      exact sm_Bo_mono (Nat.le_refl _) (fun _ _ => ⟨rfl, rfl, rfl, rfl⟩) (fun l _ _ i i1 i2 => absurd i1 (by omega)) (fun j ⟨p, a, b, c⟩ => ⟨p, a, b, by rw [kr _ (by omega)]; exact c⟩) (fun m j _ hj => by unfold sm_P2 at hj ⊢; rw [kr _ (by omega)]; exact hj) (Nat.le_refl _) (fun _ _ _ _ _ _ z => z) (fun _ _ _ _ _ _ => trivial) g4
    · obtain ⟨l, hl, el, e⟩ := g5 i i1 i2
      exact ⟨l, hl, el, k2 l e⟩
    · rcases g6 with g | ⟨L', hL', e, _⟩
      · exact Or.inl g
      · rw [e] at hpl
        exact absurd hpl (nI_pos (by omega))
end sm_R
end
section
section sm_X
variable {xa xb xml xsl xfl xrm xsc xfc xmc xus dk dp df pl pd pc pf cd xfr xht : Int32} {kx dx cx fx tx sp fp ff ft rt ag wk nk no nl cs cn cb fM fA fI fB fP fF vx bx : Nat → Int32}
theorem sm_xput {post : SX → Prop} {L : Nat} {a b c : Int32} (hL : L < 8) (h : post (xa, xb, xml, xsl, xfl, xrm, xsc, xfc, xmc, xus, dk, dp, df, pl, pd, pc, pf, cd, xfr, xht, upd kx L a, upd dx L b, upd cx L c, fx, tx, sp, fp, ff, ft, rt, ag, wk, nk, no, nl, cs, cn, cb, fM, fA, fI, fB, fP, fF, vx, bx)) : wpX_put post (xa, xb, xml, xsl, xfl, xrm, xsc, xfc, xmc, xus, dk, dp, df, pl, pd, pc, pf, cd, xfr, xht, kx, dx, cx, fx, tx, sp, fp, ff, ft, rt, ag, wk, nk, no, nl, cs, cn, cb, fM, fA, fI, fB, fP, fF, vx, bx) (nI L) a b c := by
  have i : vp_in (nI L) 424 := vp_in_nI (by omega) (by omega)
  have e : (nI L).toNatClampNeg = L := nI_clamp (by omega)
  exact ⟨i, nm_r (e' := upd kx L a) (by rw [e]) ⟨i, nm_r (e' := upd dx L b) (by rw [e]) ⟨i, nm_r (e' := upd cx L c) (by rw [e]) h⟩⟩⟩
end sm_X
section sm_Y
variable {yrm ynb yus ydk ypl ypd ypc ydp yfr yht yst yfa : Int32} {md mo ky d1 d2 po bo fo ynk yno nbd ynl ycn ycb ck rA rN rD rC rO rX vY bY : Nat → Int32}
theorem sm_yput {post : Int32 → SY → Prop} {L : Nat} {a b c : Int32} (hL : L < 8) (h : post 0 (yrm, ynb, yus, ydk, ypl, ypd, ypc, ydp, yfr, yht, yst, yfa, md, mo, upd ky L a, upd d1 L b, upd d2 L c, po, bo, fo, ynk, yno, nbd, ynl, ycn, ycb, ck, rA, rN, rD, rC, rO, rX, vY, bY)) : wpY_put post (yrm, ynb, yus, ydk, ypl, ypd, ypc, ydp, yfr, yht, yst, yfa, md, mo, ky, d1, d2, po, bo, fo, ynk, yno, nbd, ynl, ycn, ycb, ck, rA, rN, rD, rC, rO, rX, vY, bY) (nI L) a b c := by
  have i : vp_in (nI L) 424 := vp_in_nI (by omega) (by omega)
  have e : (nI L).toNatClampNeg = L := nI_clamp (by omega)
  exact ⟨i, nm_r (e' := upd ky L a) (by rw [e]) ⟨i, nm_r (e' := upd d1 L b) (by rw [e]) ⟨i, nm_r (e' := upd d2 L c) (by rw [e]) h⟩⟩⟩
end sm_Y
theorem i_vc_type {k : Nat} {u : SX} {v : SY} (I : i_Rel k u v) (hk : k + 5 ≤ 2564) (v1 : Int32) (v2 : Int32) : wpX_type (fun r u' => wpY_type (fun r' v' => r' = r ∧ i_Rel (k + 5) u' v') v v1 v2) u v1 v2 := by
  refine sm_el (P := fun u v => i_Rel (k + 5) u v → wpX_type (fun r u' => wpY_type (fun r' v' => r' = r ∧ i_Rel (k + 5) u' v') v v1 v2) u v1 v2) ?_ I (i_up I)
  intro uc cost rk ML SL FL RM sc fc mc us nb xa xb dk dp df pl pd pc pf cd xfr xht ydp yfr yht yst yfa kx dx cx fx tx sp fp ff ft rt ag wk nk no nl cs cn cb fM fA fI fB fP fF vx bx md mo ky d1 d2 po bo fo nbd ck rA rN rD rC rO rX vY bY hN hC hD J
  obtain ⟨hu, hG, ⟨rfl, rfl, rfl, rfl, rfl⟩ | ⟨D, hD1⟩⟩ := hD
  · exact br_t sm_n1lt (br_t sm_n1lt ⟨rfl, J⟩)
  · have C := sm_yc_of hN hC hD1
    have YD := sm_yd_of hN hC hD1
    have TS := sm_mn_Ts hN hC hD1
    have e2 := hD1.1.2.1
    subst e2
    have hd : ¬ nI D < 0 := nI_pos (by have := hD1.1.1; omega)
    refine br_f hd ?_
    by_cases hp : pl < 0
    · refine br_t hp ?_
      obtain ⟨c1, ⟨c2, c3, c4⟩, ⟨c5, c6, c7⟩, c8, c9, c10⟩ := C
      have PUT := fun (L : Nat) (t : Int32) (hL : L < 8) (h0 : sm_mx kx 0 L = 0) ht => sm_put_R (k := k + 5) (ML := ML) (SL := SL) (FL := FL) (RM := RM) (sc := sc) (fc := fc) (mc := mc) (us := us) (nb := nb) (xa := xa) (xb := xb) (dp := dp) (df := df) (pl := pl) (pd := pd) (pc := pc) (pf := pf) (cd := cd) (xfr := xfr) (xht := xht) (ydp := ydp) (yfr := yfr) (yht := yht) (yst := yst) (yfa := yfa) (kx := kx) (dx := dx) (cx := cx) (fx := fx) (tx := tx) (sp := sp) (fp := fp) (ff := ff) (ft := ft) (rt := rt) (ag := ag) (wk := wk) (nk := nk) (no := no) (nl := nl) (cs := cs) (cn := cn) (cb := cb) (fM := fM) (fA := fA) (fI := fI) (fB := fB) (fP := fP) (fF := fF) (vx := vx) (bx := bx) (md := md) (mo := mo) (ky := ky) (d1 := d1) (d2 := d2) (po := po) (bo := bo) (fo := fo) (nbd := nbd) (ck := ck) (rA := rA) (rN := rN) (rD := rD) (rC := rC) (rO := rO) (rX := rX) (vY := vY) (bY := bY) (kd := 1) (t := t) (c := t) (w := -3) hN hC hu hG hD1 hp hL h0 (Or.inl ⟨rfl, rfl, rfl⟩) ht ht
      have Ymn : ∀ (q : Int32 → SY → Prop), wY_type_39 q v1 (sm_mn kx dx mc dp v2) (nI RM) (nI nb) (nI us) (nI D) pl pd pc ydp yfr yht yst yfa md mo ky d1 d2 po bo fo nk no nbd nl cn cb ck rA rN rD rC rO rX vY bY → ¬ (v2 = -2 ∧ D = 0) → wpY_type q (nI RM, nI nb, nI us, nI D, pl, pd, pc, ydp, yfr, yht, yst, yfa, md, mo, ky, d1, d2, po, bo, fo, nk, no, nbd, nl, cn, cb, ck, rA, rN, rD, rC, rO, rX, vY, bY) v1 v2 := by
        intro q h hne
        have h34 : wY_type_34 q v1 v2 (nI RM) (nI nb) (nI us) (nI D) pl pd pc ydp yfr yht yst yfa md mo ky d1 d2 po bo fo nk no nbd nl cn cb ck rA rN rD rC rO rX vY bY := by
          unfold wY_type_34
          exact sm_ymn (kx := kx) (dx := dx) c1 c2 c3 c4 c5 c6 c7 c8 c9 c10 (fun W hW => (YD W hW).1) h
        refine br_f hd (br_t hp (br_c (fun e => br_c (fun z => absurd ⟨e, ?_⟩ hne) (fun _ => h34)) (fun _ => h34)))
        exact sm_inj (b := 0) z (by omega) (by omega)
      have m2 : sm_mn kx dx mc dp (-2) = -3 := by
        unfold sm_mn
        rw [if_neg (by decide), sm_cmp_neg (by decide), if_neg sm_n1le]
      have bad39 : ∀ z, (v1 < 0 ∨ (¬ v1 < 0 ∧ 7 < v1)) → wY_type_39 (fun r' v' => r' = -1 ∧ i_Rel (k + 5) (xa, xb, nI ML, nI SL, nI FL, nI RM, nI sc, nI fc, nI mc, nI us, nI D, dp, df, pl, pd, pc, pf, cd, xfr, xht, kx, dx, cx, fx, tx, sp, fp, ff, ft, rt, ag, wk, nk, no, nl, cs, cn, cb, fM, fA, fI, fB, fP, fF, vx, bx) v') v1 z (nI RM) (nI nb) (nI us) (nI D) pl pd pc ydp yfr yht yst yfa md mo ky d1 d2 po bo fo nk no nbd nl cn cb ck rA rN rD rC rO rX vY bY := by
        intro z hb
        rcases hb with a | ⟨a, b⟩
        · exact br_t a ⟨rfl, J⟩
        · exact br_f a (br_t b ⟨rfl, J⟩)
      have Ybad : (v1 < 0 ∨ (¬ v1 < 0 ∧ 7 < v1)) → wpY_type (fun r' v' => r' = -1 ∧ i_Rel (k + 5) (xa, xb, nI ML, nI SL, nI FL, nI RM, nI sc, nI fc, nI mc, nI us, nI D, dp, df, pl, pd, pc, pf, cd, xfr, xht, kx, dx, cx, fx, tx, sp, fp, ff, ft, rt, ag, wk, nk, no, nl, cs, cn, cb, fM, fA, fI, fB, fP, fF, vx, bx) v') (nI RM, nI nb, nI us, nI D, pl, pd, pc, ydp, yfr, yht, yst, yfa, md, mo, ky, d1, d2, po, bo, fo, nk, no, nbd, nl, cn, cb, ck, rA, rN, rD, rC, rO, rX, vY, bY) v1 v2 := by
        intro hb
        by_cases hne : v2 = -2 ∧ D = 0
        · exact br_f hd (br_t hp (br_t hne.1 (br_t (by rw [hne.2]; rfl) (bad39 _ hb))))
        · exact Ymn _ (bad39 _ hb) hne
      rcases sm_c8 v1 with ⟨a, b⟩ | ⟨a, b, _, d⟩ | ⟨L, hL, rfl, a, b, _⟩
      · exact sm_xin0 b (br_t rfl (Ybad (Or.inl a)))
      · exact sm_xin0 d (br_t rfl (Ybad (Or.inr ⟨a, b⟩)))
      · refine sm_xin1 hL (br_f (by decide) ?_)
        have iL : vp_in (nI L) 424 := vp_in_nI (by omega) (by omega)
        have ek : kx (nI L).toNatClampNeg = sm_mx kx 0 L := by rw [nI_clamp (by omega)]; exact sm_mx0 hL
        have ey : ky (nI L).toNatClampNeg = sm_mx kx 0 L := by rw [nI_clamp (by omega)]; exact (sm_mx0 hL).trans (c8 L)
        have G : ∀ t, ¬ t = -3 → sm_Ts (sm_DA (upd kx L 1) D) (sm_DN kx sc dp) t → (∀ q : Int32 → SY → Prop, wY_type_39 q (nI L) t (nI RM) (nI nb) (nI us) (nI D) pl pd pc ydp yfr yht yst yfa md mo ky d1 d2 po bo fo nk no nbd nl cn cb ck rA rN rD rC rO rX vY bY → wpY_type q (nI RM, nI nb, nI us, nI D, pl, pd, pc, ydp, yfr, yht, yst, yfa, md, mo, ky, d1, d2, po, bo, fo, nk, no, nbd, nl, cn, cb, ck, rA, rN, rD, rC, rO, rX, vY, bY) (nI L) v2) → wX_type_58 (fun r u' => wpY_type (fun r' v' => r' = r ∧ i_Rel (k + 5) u' v') (nI RM, nI nb, nI us, nI D, pl, pd, pc, ydp, yfr, yht, yst, yfa, md, mo, ky, d1, d2, po, bo, fo, nk, no, nbd, nl, cn, cb, ck, rA, rN, rD, rC, rO, rX, vY, bY) (nI L) v2) (nI L) t xa xb (nI ML) (nI SL) (nI FL) (nI RM) (nI sc) (nI fc) (nI mc) (nI us) (nI D) dp df pl pd pc pf cd xfr xht kx dx cx fx tx sp fp ff ft rt ag wk nk no nl cs cn cb fM fA fI fB fP fF vx bx := by
          intro t ht hts hY
          unfold wX_type_58
          rw [ek]
          refine ⟨iL, br_c (fun z => sm_xput hL (hY _ ?_)) (fun z => hY _ ?_)⟩
          · refine br_f a (br_f b (br_f ht ⟨iL, ?_⟩))
            rw [ey]
            exact br_t z (sm_yput hL ⟨rfl, PUT L t hL z hts⟩)
          · refine br_f a (br_f b (br_f ht ⟨iL, ?_⟩))
            rw [ey]
            exact br_f z ⟨rfl, J⟩
        by_cases e : v2 = -2
        · refine br_t e (br_c (fun z => ?_) (fun z => ?_))
          · have z' : D = 0 := sm_inj (b := 0) z (by omega) (by omega)
            refine G (nI L) (sm_ne3 (by omega)) ⟨fun j hj ej => ?_, fun j hj ej => ?_⟩ (fun q h => br_f hd (br_t hp (br_t e (br_t z h))))
            · have := sm_inj ej (by omega) (by omega)
              subst this
              refine ⟨z', ?_⟩
              rw [sm_ut hL, Nat.mod_eq_of_lt hL, if_pos rfl]
              decide
            · have := sm_inj ej (by omega) (by omega)
              omega
          · refine Ymn _ ?_ (fun w => z (by rw [w.2]; rfl))
            rw [e, m2]
            exact br_f a (br_f b (br_t rfl ⟨rfl, J⟩))
        · refine br_f e (sm_xmn c1 c2 c3 (br_c (fun z => ?_) (fun z => ?_)))
          · refine Ymn _ ?_ (fun w => e w.1)
            rw [z]
            exact br_f a (br_f b (br_t rfl ⟨rfl, J⟩))
          · by_cases h0 : sm_mx kx 0 L = 0
            · refine G _ z ?_ (fun q h => Ymn q h (fun w => e w.1))
              rcases TS v2 with w | w
              · exact absurd w z
              · refine sm_Ts_mono (fun j _ ⟨x1, x2⟩ => ⟨x1, ?_⟩) (fun _ _ w => w) w
                rw [sm_ut hL]
                by_cases q : j % 8 = L
                · rw [if_pos q]; decide
                · rw [if_neg q]; exact x2
            · unfold wX_type_58
              rw [ek]
              refine ⟨iL, br_f h0 (Ymn _ ?_ (fun w => e w.1))⟩
              refine br_f a (br_f b (br_f z ⟨iL, ?_⟩))
              rw [ey]
              exact br_f h0 ⟨rfl, J⟩
    · exact br_f hp (br_f hd (br_f hp ⟨rfl, J⟩))
end
section
section sm_R
variable {ML SL FL RM sc fc mc us nb : Nat} {xa xb dk dp df pl pd pc pf cd xfr xht ydp yfr yht yst yfa : Int32} {kx dx cx fx tx sp fp ff ft rt ag wk nk no nl cs cn cb fM fA fI fB fP fF vx bx md mo ky d1 d2 po bo fo nbd ck rA rN rD rC rO rX vY bY : Nat → Int32}
variable {uc D : Nat} {cost rk : Nat → Nat}
theorem sm_op_R {k L : Nat} {d' c' : Int32} (hN : sm_Num ML SL FL RM sc fc mc nb md mo) (hC : sm_CL sc fc mc uc nb cost rk kx dx cx fx tx sp fp ff ft rt ag wk nk no nl ky d1 d2 po bo fo nbd) (hu : uc ≤ us ∧ us ≤ RM) (hG : ∀ k, uc ≤ k → k < us → nbd k = nI nb) (h : sm_D1 kx dx cx fx tx sp nk no nl ky d1 d2 po nbd cs sc mc uc us nb D dk dp df pl pd pc pf cd) (hpl : pl < 0) (hL : L < 8) (h0 : sm_mx kx 0 L = 0) (hD0 : D ≠ 0)
    (ht : sm_Ts (sm_DA kx D) (sm_DN kx sc dp) d') (hc : sm_Ts (sm_DA kx D) (sm_DN kx sc dp) c') : i_Rel k (xa, xb, nI ML, nI SL, nI FL, nI RM, nI sc, nI fc, nI mc, nI us, dk, dp, df, nI L, d', c', nI us, 0, xfr, xht, kx, dx, cx, fx, tx, sp, fp, ff, ft, rt, ag, wk, nk, no, nl, cs, cn, cb, fM, fA, fI, fB, fP, fF, vx, bx) (nI RM, nI nb, nI us, dk, nI L, d', c', ydp, yfr, yht, yst, yfa, md, mo, ky, d1, d2, po, bo, fo, nk, no, nbd, nl, cn, cb, ck, rA, rN, rD, rC, rO, rX, vY, bY) := by
  obtain ⟨⟨e1, e2, e3, e4⟩, e5, e6, e7, L0, T0, z0, z1⟩ := h
  refine sm_in (uc := uc) (cost := cost) (rk := rk) hN hC ⟨hu, hG, Or.inr ⟨D, ⟨e1, e2, e3, e4⟩, e5, e6, e7, L0, T0, fun z => absurd z hD0, fun hz => ?_⟩⟩
  obtain ⟨dr, ud, g1, g2, g3, g4, g5, g6⟩ := z1 hz
  rcases g6 with ⟨_, _, rfl⟩ | ⟨L', hL', e, _⟩
  · refine ⟨dr, ud, g1, g2, g3, g4, g5, Or.inr ⟨L, hL, rfl, h0, rfl, fun k a b => absurd a (by omega), ht, hc, ?_, fun _ _ => 0, ?_, fun n hn => absurd hn (by omega)⟩⟩
    · rw [Nat.sub_self]; rfl
    · rw [Nat.sub_self]; exact fun j hj => absurd hj (Nat.not_lt_zero j)
  · rw [e] at hpl
    exact absurd hpl (nI_pos (by omega))
end sm_R
theorem i_vc_op {k : Nat} {u : SX} {v : SY} (I : i_Rel k u v) (hk : k + 5 ≤ 2564) (v1 : Int32) (v2 : Int32) (v3 : Int32) : wpX_op (fun r u' => wpY_op (fun r' v' => r' = r ∧ i_Rel (k + 5) u' v') v v1 v2 v3) u v1 v2 v3 := by
  refine sm_el (P := fun u v => i_Rel (k + 5) u v → wpX_op (fun r u' => wpY_op (fun r' v' => r' = r ∧ i_Rel (k + 5) u' v') v v1 v2 v3) u v1 v2 v3) ?_ I (i_up I)
  intro uc cost rk ML SL FL RM sc fc mc us nb xa xb dk dp df pl pd pc pf cd xfr xht ydp yfr yht yst yfa kx dx cx fx tx sp fp ff ft rt ag wk nk no nl cs cn cb fM fA fI fB fP fF vx bx md mo ky d1 d2 po bo fo nbd ck rA rN rD rC rO rX vY bY hN hC hD J
  obtain ⟨hu, hG, ⟨rfl, rfl, rfl, rfl, rfl⟩ | ⟨D, hD1⟩⟩ := hD
  · exact br_t sm_n1lt (br_t sm_n1lt ⟨rfl, J⟩)
  · have C := sm_yc_of hN hC hD1
    have YD := sm_yd_of hN hC hD1
    have TS := sm_mn_Ts hN hC hD1
    have e2 := hD1.1.2.1
    subst e2
    have hd : ¬ nI D < 0 := nI_pos (by have := hD1.1.1; omega)
    refine br_f hd ?_
    by_cases hp : pl < 0
    · refine br_t hp ?_
      obtain ⟨c1, ⟨c2, c3, c4⟩, ⟨c5, c6, c7⟩, c8, c9, c10⟩ := C
      have Ymn : ∀ (x : Int32) (q : Int32 → Prop), q (sm_mn kx dx mc dp x) → wpY_meaning q (nI RM, nI nb, nI us, nI D, pl, pd, pc, ydp, yfr, yht, yst, yfa, md, mo, ky, d1, d2, po, bo, fo, nk, no, nbd, nl, cn, cb, ck, rA, rN, rD, rC, rO, rX, vY, bY) x := fun x q h => sm_ymn (kx := kx) (dx := dx) c1 c2 c3 c4 c5 c6 c7 c8 c9 c10 (fun W hW => (YD W hW).1) h
      have Y0 : ∀ q : Int32 → SY → Prop, ((v1 < 0 → q (-1) (nI RM, nI nb, nI us, nI D, pl, pd, pc, ydp, yfr, yht, yst, yfa, md, mo, ky, d1, d2, po, bo, fo, nk, no, nbd, nl, cn, cb, ck, rA, rN, rD, rC, rO, rX, vY, bY)) ∧ (¬ v1 < 0 → ((7 < v1 → q (-1) (nI RM, nI nb, nI us, nI D, pl, pd, pc, ydp, yfr, yht, yst, yfa, md, mo, ky, d1, d2, po, bo, fo, nk, no, nbd, nl, cn, cb, ck, rA, rN, rD, rC, rO, rX, vY, bY)) ∧ (¬ 7 < v1 → ((sm_mn kx dx mc dp v2 = -3 → q (-1) (nI RM, nI nb, nI us, nI D, pl, pd, pc, ydp, yfr, yht, yst, yfa, md, mo, ky, d1, d2, po, bo, fo, nk, no, nbd, nl, cn, cb, ck, rA, rN, rD, rC, rO, rX, vY, bY)) ∧ (¬ sm_mn kx dx mc dp v2 = -3 → ((sm_mn kx dx mc dp v3 = -3 → q (-1) (nI RM, nI nb, nI us, nI D, pl, pd, pc, ydp, yfr, yht, yst, yfa, md, mo, ky, d1, d2, po, bo, fo, nk, no, nbd, nl, cn, cb, ck, rA, rN, rD, rC, rO, rX, vY, bY)) ∧ (¬ sm_mn kx dx mc dp v3 = -3 → (vp_in v1 424 ∧ ((ky v1.toNatClampNeg = 0 → ((nI D = 0 → wpY_put (fun r u => match u with | (yrm, ynb, yus, ydk, ypl, ypd, ypc, ydp, yfr, yht, yst, yfa, md, mo, ky, d1, d2, po, bo, fo, ynk, yno, nbd, ynl, ycn, ycb, ck, rA, rN, rD, rC, rO, rX, vY, bY) => q r (yrm, ynb, yus, ydk, ypl, ypd, ypc, ydp, yfr, yht, yst, yfa, md, mo, ky, d1, d2, po, bo, fo, ynk, yno, nbd, ynl, ycn, ycb, ck, rA, rN, rD, rC, rO, rX, vY, bY)) (nI RM, nI nb, nI us, nI D, pl, pd, pc, ydp, yfr, yht, yst, yfa, md, mo, ky, d1, d2, po, bo, fo, nk, no, nbd, nl, cn, cb, ck, rA, rN, rD, rC, rO, rX, vY, bY) v1 2 (sm_mn kx dx mc dp v2) (sm_mn kx dx mc dp v3)) ∧ (¬ nI D = 0 → q 0 (nI RM, nI nb, nI us, nI D, v1, sm_mn kx dx mc dp v2, sm_mn kx dx mc dp v3, ydp, yfr, yht, yst, yfa, md, mo, ky, d1, d2, po, bo, fo, nk, no, nbd, nl, cn, cb, ck, rA, rN, rD, rC, rO, rX, vY, bY)))) ∧ (¬ ky v1.toNatClampNeg = 0 → q (-4) (nI RM, nI nb, nI us, nI D, pl, pd, pc, ydp, yfr, yht, yst, yfa, md, mo, ky, d1, d2, po, bo, fo, nk, no, nbd, nl, cn, cb, ck, rA, rN, rD, rC, rO, rX, vY, bY))))))))))) ) → wpY_op q (nI RM, nI nb, nI us, nI D, pl, pd, pc, ydp, yfr, yht, yst, yfa, md, mo, ky, d1, d2, po, bo, fo, nk, no, nbd, nl, cn, cb, ck, rA, rN, rD, rC, rO, rX, vY, bY) v1 v2 v3 := by
        intro q h
        exact br_f hd (br_t hp (Ymn v2 _ (Ymn v3 _ h)))
      rcases sm_c8 v1 with ⟨a, b⟩ | ⟨a, b, _, d⟩ | ⟨L, hL, rfl, a, b, _⟩
      · exact sm_xin0 b (br_t rfl (Y0 _ (br_t a ⟨rfl, J⟩)))
      · exact sm_xin0 d (br_t rfl (Y0 _ (br_f a (br_t b ⟨rfl, J⟩))))
      · refine sm_xin1 hL (br_f (by decide) (sm_xmn c1 c2 c3 (sm_xmn c1 c2 c3 ?_)))
        have iL : vp_in (nI L) 424 := vp_in_nI (by omega) (by omega)
        have ek : kx (nI L).toNatClampNeg = sm_mx kx 0 L := by rw [nI_clamp (by omega)]; exact sm_mx0 hL
        have ey : ky (nI L).toNatClampNeg = sm_mx kx 0 L := by rw [nI_clamp (by omega)]; exact (sm_mx0 hL).trans (c8 L)
        refine br_c (fun z => Y0 _ (br_f a (br_f b (br_t z ⟨rfl, J⟩)))) (fun z => br_c (fun z2 => Y0 _ (br_f a (br_f b (br_f z (br_t z2 ⟨rfl, J⟩))))) (fun z2 => ⟨iL, ?_⟩))
        have t1 := (TS v2).resolve_left z
        have t2 := (TS v3).resolve_left z2
        have mono : ∀ t, sm_Ts (sm_DA kx D) (sm_DN kx sc dp) t → sm_Ts (sm_DA (upd kx L 2) D) (sm_DN kx sc dp) t := by
          intro t h
          refine sm_Ts_mono (fun j _ ⟨x1, x2⟩ => ⟨x1, ?_⟩) (fun _ _ w => w) h
          rw [sm_ut hL]
          by_cases q : j % 8 = L
          · rw [if_pos q]; decide
          · rw [if_neg q]; exact x2
        rw [ek]
        refine br_c (fun h0 => br_c (fun hD0 => ?_) (fun hD0 => ?_)) (fun h0 => ?_)
        · have hD0' : D = 0 := sm_inj (b := 0) hD0 (by omega) (by omega)
          refine sm_xput hL (Y0 _ (br_f a (br_f b (br_f z (br_f z2 ⟨iL, br_t (ey.trans h0) (br_t hD0 (sm_yput hL ⟨rfl, ?_⟩))⟩)))))
          exact sm_put_R hN hC hu hG hD1 hp hL h0 (Or.inr ⟨rfl, rfl, hD0'⟩) (mono _ t1) (mono _ t2)
        · have hD0' : D ≠ 0 := fun e => hD0 (by rw [e]; rfl)
          refine Y0 _ (br_f a (br_f b (br_f z (br_f z2 ⟨iL, br_t (ey.trans h0) (br_f hD0 ⟨rfl, ?_⟩)⟩))))
          exact sm_op_R hN hC hu hG hD1 hp hL h0 hD0' t1 t2
        · exact Y0 _ (br_f a (br_f b (br_f z (br_f z2 ⟨iL, br_f (by rw [ey]; exact h0) ⟨rfl, J⟩⟩))))
    · exact br_f hp (br_f hd (br_f hp ⟨rfl, J⟩))
end
section
theorem sm_Tn_t {kx dx cx : Nat → Int32} {sc mc d : Nat} {dp pd k w : Int32} {t t1 t' : Nat → Int32} (o : sm_ok k d) (h : ∀ j, j < d → t1 j = t j) (H : sm_Tn kx dx cx sc mc dp pd k w d t t') : sm_Tn kx dx cx sc mc dp pd k w d t1 t' := by
  obtain ⟨h0, h1, h5, ha⟩ := H
  refine ⟨fun e => ⟨fun j hj => ?_, (h0 e).2⟩, fun e => ⟨fun j hj => ?_, (h1 e).2⟩, fun e => ?_, fun a b c => ?_⟩
  · rw [h j hj]; exact (h0 e).1 j hj
  · rw [h j hj]; exact (h1 e).1 j hj
  · subst e
    have := (sm_ok5 o).1
    obtain ⟨g1, W, hW, eW, g2, g3, g4, g5⟩ := h5 rfl
    refine ⟨fun j hj => ?_, W, hW, eW, g2, g3, ?_, g5⟩
    · rw [h j (by omega)]; exact g1 j hj
    · rw [h _ (by omega)]; exact g4
  · have := (sm_oka a b c o).1
    obtain ⟨g1, g2, g3⟩ := ha a b c
    refine ⟨fun j hj => ?_, ?_, ?_⟩
    · rw [h j (by omega)]; exact g1 j hj
    · rw [h _ (by omega)]; exact g2
    · rw [h _ (by omega)]; exact g3
section sm_X
variable {xa xb xml xsl xfl xrm xsc xfc xmc xus dk dp df pl pd pc pf cd xfr xht : Int32} {kx dx cx fx tx sp fp ff ft rt ag wk nk no nl cs cn cb fM fA fI fB fP fF vx bx : Nat → Int32}
theorem sm_xkeep {post : SX → Prop} {us : Nat} {a b : Int32} (hu : us < 192) (h : post (xa, xb, xml, xsl, xfl, xrm, xsc, xfc, xmc, nI (us + 1), dk, dp, df, pl, pd, pc, pf, cd, xfr, xht, kx, dx, cx, fx, tx, sp, fp, ff, ft, rt, ag, wk, upd nk us a, upd no us b, upd nl us pl, cs, cn, cb, fM, fA, fI, fB, fP, fF, vx, bx)) : wpX_keep post (xa, xb, xml, xsl, xfl, xrm, xsc, xfc, xmc, nI us, dk, dp, df, pl, pd, pc, pf, cd, xfr, xht, kx, dx, cx, fx, tx, sp, fp, ff, ft, rt, ag, wk, nk, no, nl, cs, cn, cb, fM, fA, fI, fB, fP, fF, vx, bx) a b := by
  have i : vp_in (nI us) 192 := vp_in_nI (by omega) (by omega)
  have e : (nI us).toNatClampNeg = us := nI_clamp (by omega)
  exact ⟨i, nm_r (e' := upd nk us a) (by rw [e]) ⟨i, nm_r (e' := upd no us b) (by rw [e]) ⟨i, nm_r (e' := upd nl us pl) (by rw [e]) (nm_r (nI_1 us) h)⟩⟩⟩
theorem sm_xpush {post : Int32 → SX → Prop} {d : Nat} {t : Int32} (hd : d ≤ 4) (h1 : d < 4 → post 0 (xa, xb, xml, xsl, xfl, xrm, xsc, xfc, xmc, xus, dk, dp, df, pl, pd, pc, pf, nI (d + 1), xfr, xht, kx, dx, cx, fx, tx, sp, fp, ff, ft, rt, ag, wk, nk, no, nl, upd cs d t, cn, cb, fM, fA, fI, fB, fP, fF, vx, bx)) (h2 : ¬ d < 4 → post (-3) (xa, xb, xml, xsl, xfl, xrm, xsc, xfc, xmc, xus, dk, dp, df, pl, pd, pc, pf, nI d, xfr, xht, kx, dx, cx, fx, tx, sp, fp, ff, ft, rt, ag, wk, nk, no, nl, cs, cn, cb, fM, fA, fI, fB, fP, fF, vx, bx)) : wpX_checkPush post (xa, xb, xml, xsl, xfl, xrm, xsc, xfc, xmc, xus, dk, dp, df, pl, pd, pc, pf, nI d, xfr, xht, kx, dx, cx, fx, tx, sp, fp, ff, ft, rt, ag, wk, nk, no, nl, cs, cn, cb, fM, fA, fI, fB, fP, fF, vx, bx) t := by
  by_cases c : d < 4
  · exact br_t (nI_lt (b := 4) c (by decide)) ⟨vp_in_nI c (by omega), nm_r (e' := upd cs d t) (by rw [nI_clamp (by omega)]) (nm_r (nI_1 d) (h1 c))⟩
  · exact br_f (nI_nlt (b := 4) (by omega) (by omega)) (h2 c)
theorem sm_xari {post : Int32 → SX → Prop} {d : Nat} (hd : d ≤ 4) (h0 : d < 2 → post (-5) (xa, xb, xml, xsl, xfl, xrm, xsc, xfc, xmc, xus, dk, dp, df, pl, pd, pc, pf, nI d, xfr, xht, kx, dx, cx, fx, tx, sp, fp, ff, ft, rt, ag, wk, nk, no, nl, cs, cn, cb, fM, fA, fI, fB, fP, fF, vx, bx)) (h1 : 2 ≤ d → cs (d - 1) = -1 → cs (d - 2) = -1 → post 0 (xa, xb, xml, xsl, xfl, xrm, xsc, xfc, xmc, xus, dk, dp, df, pl, pd, pc, pf, nI (d - 1), xfr, xht, kx, dx, cx, fx, tx, sp, fp, ff, ft, rt, ag, wk, nk, no, nl, cs, cn, cb, fM, fA, fI, fB, fP, fF, vx, bx)) (h2 : 2 ≤ d → ¬ (cs (d - 1) = -1 ∧ cs (d - 2) = -1) → post (-6) (xa, xb, xml, xsl, xfl, xrm, xsc, xfc, xmc, xus, dk, dp, df, pl, pd, pc, pf, nI d, xfr, xht, kx, dx, cx, fx, tx, sp, fp, ff, ft, rt, ag, wk, nk, no, nl, cs, cn, cb, fM, fA, fI, fB, fP, fF, vx, bx)) : wpX_checkArithmetic post (xa, xb, xml, xsl, xfl, xrm, xsc, xfc, xmc, xus, dk, dp, df, pl, pd, pc, pf, nI d, xfr, xht, kx, dx, cx, fx, tx, sp, fp, ff, ft, rt, ag, wk, nk, no, nl, cs, cn, cb, fM, fA, fI, fB, fP, fF, vx, bx) := by
  by_cases c : d < 2
  · exact br_f (nI_ge (b := 2) c (by decide)) (h0 c)
  · have i1 : vp_in (nI (d - 1)) 4 := vp_in_nI (by omega) (by omega)
    have i2 : vp_in (nI (d - 2)) 4 := vp_in_nI (by omega) (by omega)
    refine br_t (nI_le (a := 2) (by omega) (by omega)) ?_
    rw [sm_s1 (by omega), sm_s2 (by omega), nI_clamp (show d - 1 < 2 ^ 31 by omega), nI_clamp (show d - 2 < 2 ^ 31 by omega)]
    exact ⟨i1, br_c (fun e => ⟨i2, br_c (fun e2 => nm_e (h1 (by omega) e e2)) (fun e2 => h2 (by omega) fun z => e2 z.2)⟩) (fun e => h2 (by omega) fun z => e z.1)⟩
theorem sm_xcall {post : Int32 → SX → Prop} {d r W : Nat} (hd : d ≤ 4) (hr : r < 53) (hW : W < 2 ^ 31) (h0 : d = 0 → post (-5) (xa, xb, xml, xsl, xfl, xrm, xsc, xfc, xmc, xus, dk, dp, df, pl, pd, pc, pf, nI d, xfr, xht, kx, dx, cx, fx, tx, sp, fp, ff, ft, rt, ag, wk, nk, no, nl, cs, cn, cb, fM, fA, fI, fB, fP, fF, vx, bx)) (h1 : 1 ≤ d → cs (d - 1) = sm_lf W (sm_mx dx r (W % 8)) → post 0 (xa, xb, xml, xsl, xfl, xrm, xsc, xfc, xmc, xus, dk, dp, df, pl, pd, pc, pf, nI d, xfr, xht, kx, dx, cx, fx, tx, sp, fp, ff, ft, rt, ag, wk, nk, no, nl, upd cs (d - 1) (sm_lf W (sm_mx cx r (W % 8))), cn, cb, fM, fA, fI, fB, fP, fF, vx, bx)) (h2 : 1 ≤ d → ¬ cs (d - 1) = sm_lf W (sm_mx dx r (W % 8)) → post (-6) (xa, xb, xml, xsl, xfl, xrm, xsc, xfc, xmc, xus, dk, dp, df, pl, pd, pc, pf, nI d, xfr, xht, kx, dx, cx, fx, tx, sp, fp, ff, ft, rt, ag, wk, nk, no, nl, cs, cn, cb, fM, fA, fI, fB, fP, fF, vx, bx)) : wpX_checkCall post (xa, xb, xml, xsl, xfl, xrm, xsc, xfc, xmc, xus, dk, dp, df, pl, pd, pc, pf, nI d, xfr, xht, kx, dx, cx, fx, tx, sp, fp, ff, ft, rt, ag, wk, nk, no, nl, cs, cn, cb, fM, fA, fI, fB, fP, fF, vx, bx) (nI (8 * r + W % 8)) (nI W / 8) := by
  have hq : W % 8 < 8 := Nat.mod_lt _ (by decide)
  have ir : vp_in (nI (8 * r + W % 8)) 424 := vp_in_nI (by omega) (by omega)
  rw [sm_d8 hW]
  by_cases c : d = 0
  · subst c
    exact br_f (by decide) (h0 rfl)
  · have i1 : vp_in (nI (d - 1)) 4 := vp_in_nI (by omega) (by omega)
    refine br_t (nI_le (a := 1) (by omega) (by omega)) ?_
    rw [sm_s1 (by omega), nI_clamp (show d - 1 < 2 ^ 31 by omega), nI_clamp (show 8 * r + W % 8 < 2 ^ 31 by omega), sm_mx2 (a := dx) hq, sm_mx2 (a := cx) hq]
    exact ⟨ir, sm_xlift hW ⟨i1, br_c (fun e => ⟨ir, sm_xlift hW ⟨i1, nm_e (h1 (by omega) e)⟩⟩) (fun e => h2 (by omega) e)⟩⟩
end sm_X
section sm_R
variable {ML SL FL RM sc fc mc us nb : Nat} {xa xb dk dp df pl pd pc pf cd xfr xht ydp yfr yht yst yfa : Int32} {kx dx cx fx tx sp fp ff ft rt ag wk nk no nl cs cn cb fM fA fI fB fP fF vx bx md mo ky d1 d2 po bo fo nbd ck rA rN rD rC rO rX vY bY : Nat → Int32}
variable {uc D : Nat} {cost rk : Nat → Nat}
theorem sm_node_R {k d : Nat} {kk w : Int32} {cs' : Nat → Int32} (hN : sm_Num ML SL FL RM sc fc mc nb md mo) (hC : sm_CL sc fc mc uc nb cost rk kx dx cx fx tx sp fp ff ft rt ag wk nk no nl ky d1 d2 po bo fo nbd) (hu : uc ≤ us ∧ us ≤ RM) (hG : ∀ k, uc ≤ k → k < us → nbd k = nI nb) (h : sm_D1 kx dx cx fx tx sp nk no nl ky d1 d2 po nbd cs sc mc uc us nb D dk dp df pl pd pc pf cd) (hpl : ¬ pl < 0) (hlt : us < RM) (ecd : cd = nI d) (hd4 : d ≤ 4)
    (ho : sm_ok kk d) (hT : sm_Tn kx dx cx sc mc dp pd kk w d cs cs') : i_Rel k (xa, xb, nI ML, nI SL, nI FL, nI RM, nI sc, nI fc, nI mc, nI (us + 1), dk, dp, df, pl, pd, pc, pf, nI (sm_st kk d), xfr, xht, kx, dx, cx, fx, tx, sp, fp, ff, ft, rt, ag, wk, upd nk us kk, upd no us w, upd nl us pl, cs', cn, cb, fM, fA, fI, fB, fP, fF, vx, bx) (nI RM, nI nb, nI (us + 1), dk, pl, pd, pc, ydp, yfr, yht, yst, yfa, md, mo, ky, d1, d2, po, bo, fo, upd nk us kk, upd no us w, upd nbd us (nI nb), upd nl us pl, cn, cb, ck, rA, rN, rD, rC, rO, rX, vY, bY) := by
  have hN' := hN
  obtain ⟨⟨n1, n2, n3, n4, n5, n6, n7⟩, ⟨hsc, hmc, hfc, hnb⟩, _, _⟩ := hN'
  obtain ⟨⟨e1, e2, e3, e4⟩, e5, e6, e7, L0, T0, z0, z1⟩ := h
  have nodes : ∀ i, i < us → upd nk us kk i = nk i ∧ upd no us w i = no i ∧ upd nl us pl i = nl i ∧ upd nbd us (nI nb) i = nbd i := fun i hi => ⟨pk_un (by omega), pk_un (by omega), pk_un (by omega), pk_un (by omega)⟩
  have hz : D ≠ 0 := by
    intro hz
    rw [(z0 hz).2.1] at hpl
    exact hpl sm_n1lt
  refine sm_in (uc := uc) (cost := cost) (rk := rk) hN ?_ ⟨⟨by omega, by omega⟩, fun i i1 i2 => ?_, Or.inr ⟨D, ⟨e1, e2, e3, e4⟩, e5, e6, e7, L0, T0, fun z => absurd z hz, fun _ => ?_⟩⟩
  · exact sm_CL_draft (by omega) (by omega) (by omega) (by omega) (fun r hr => ⟨rfl, rfl, rfl, rfl, rfl⟩) (fun r hr => ⟨rfl, rfl, rfl⟩) (fun _ _ => rfl) (fun i hi => nodes i (by omega)) hC
  · by_cases e : i = us
    · subst e; exact pk_us
    · rw [pk_un e]; exact hG i i1 (by omega)
  · obtain ⟨dr, ud, g1, g2, g3, g4, g5, g6⟩ := z1 hz
    rcases g6 with ⟨e, _⟩ | ⟨L, hL, eL, kL, epf, lL, tp, tc, ecd', T, hT1, hT2⟩
    · rw [e] at hpl; exact absurd sm_n1lt hpl
    · have hsd : sm_sd nk ud (us - ud) ≤ 4 := sm_sd_le _ fun m hm => (hT2 m (by omega)).1
      have ed : d = sm_sd nk ud (us - ud) := sm_inj (ecd.symm.trans ecd') (by omega) (by omega)
      have sdE : ∀ n, ud + n ≤ us → sm_sd (upd nk us kk) ud n = sm_sd nk ud n := fun n hn => sm_sd_congr n fun i i1 i2 => (nodes i (by omega)).1
      have e1u : us + 1 - ud = us - ud + 1 := by omega
      have eu : ud + (us - ud) = us := by omega
      have sdN : sm_sd (upd nk us kk) ud (us + 1 - ud) = sm_st kk d := by
        rw [e1u, sm_sd_s, sdE _ (by omega), eu, pk_us, ed]
      refine ⟨dr, ud, g1, by omega, g3, ?_, fun i i1 i2 => ?_, Or.inr ⟨L, hL, eL, kL, epf, fun i i1 i2 => ?_, tp, tc, by rw [sdN], fun n => if n ≤ us - ud then T n else cs', ?_, fun n hn => ?_⟩⟩
      · exact sm_Bo_mono (Nat.le_refl _) (fun i hi => nodes i (by omega)) (fun l _ _ i i1 i2 => absurd i1 (by omega)) (fun j z => z) (fun m j _ hj => hj) (Nat.le_refl _) (fun _ _ _ _ _ _ z => z) (fun _ _ _ _ _ _ => trivial) g4
      · rw [(nodes i (by omega)).2.2.1]; exact g5 i i1 i2
      · by_cases e : i = us
        · subst e; rw [pk_us]; exact eL
        · rw [pk_un e]; exact lL i i1 (by omega)
      · intro j hj
        dsimp only
        rw [if_neg (by omega)]
      · rw [sdE n (by omega)]
        dsimp only
        by_cases e : n = us - ud
        · subst e
          rw [eu, pk_us, pk_us, if_pos (Nat.le_refl _), if_neg (by omega), ← ed]
          refine ⟨ho, sm_Tn_t ho (fun j hj => ?_) hT⟩
          rw [ed] at hj
          exact hT1 j hj
        · rw [(nodes (ud + n) (by omega)).1, (nodes (ud + n) (by omega)).2.1, if_pos (by omega), if_pos (by omega)]
          exact hT2 n (by omega)
end sm_R
end
section
theorem i_vc_node {k : Nat} {u : SX} {v : SY} (I : i_Rel k u v) (hk : k + 5 ≤ 2564) (v1 : Int32) (v2 : Int32) : wpX_node (fun r u' => wpY_node (fun r' v' => r' = r ∧ i_Rel (k + 5) u' v') v v1 v2) u v1 v2 := by
  refine sm_el (P := fun u v => i_Rel (k + 5) u v → wpX_node (fun r u' => wpY_node (fun r' v' => r' = r ∧ i_Rel (k + 5) u' v') v v1 v2) u v1 v2) ?_ I (i_up I)
  intro uc cost rk ML SL FL RM sc fc mc us nb xa xb dk dp df pl pd pc pf cd xfr xht ydp yfr yht yst yfa kx dx cx fx tx sp fp ff ft rt ag wk nk no nl cs cn cb fM fA fI fB fP fF vx bx md mo ky d1 d2 po bo fo nbd ck rA rN rD rC rO rX vY bY hN hC hD J
  obtain ⟨n, hn4, rfl⟩ := sm_cdn hD
  have hN' := hN
  obtain ⟨⟨n1, n2, n3, n4, n5, n6, n7⟩, ⟨hsc, hmc, hfc, hnb⟩, _, _⟩ := hN'
  have hDD := hD
  obtain ⟨hu, hG, ⟨rfl, rfl, rfl, e0, rfl⟩ | ⟨D, hD1⟩⟩ := hDD
  · exact br_f sm_n1le (br_f sm_n1le ⟨rfl, J⟩)
  · have C := sm_yc_of hN hC hD1
    have YD := sm_yd_of hN hC hD1
    have e2 := hD1.1.2.1
    subst e2
    by_cases hp : 0 ≤ pl
    · have hp' : ¬ pl < 0 := Int32.not_lt.mpr hp
      refine br_t hp ?_
      by_cases hv : v1 < 0
      · exact br_t hv (br_t hp (br_t hv ⟨rfl, J⟩))
      · refine br_f hv ?_
        by_cases h5 : v1 ≤ 5
        · refine br_t h5 ?_
          have h5' : ¬ 5 < v1 := Int32.not_lt.mpr h5
          have iu : us < RM → vp_in (nI us) 192 := fun h => vp_in_nI (by omega) (by omega)
          have cu : (nI us).toNatClampNeg = us := nI_clamp (by omega)
          have REL : ∀ (cs' : Nat → Int32) (yd : Int32) (c' : Nat → Int32), us < RM → sm_ok v1 n → sm_Tn kx dx cx sc mc dp pd v1 v2 n cs cs' → i_Rel (k + 5) (xa, xb, nI ML, nI SL, nI FL, nI RM, nI sc, nI fc, nI mc, nI (us + 1), nI D, dp, df, pl, pd, pc, pf, nI (sm_st v1 n), xfr, xht, kx, dx, cx, fx, tx, sp, fp, ff, ft, rt, ag, wk, upd nk us v1, upd no us v2, upd nl us pl, cs', cn, cb, fM, fA, fI, fB, fP, fF, vx, bx) (nI RM, nI nb, nI (us + 1), nI D, pl, pd, pc, yd, yfr, yht, yst, yfa, md, mo, ky, d1, d2, po, bo, fo, upd nk us v1, upd no us v2, upd nbd us (nI nb), upd nl us pl, cn, cb, c', rA, rN, rD, rC, rO, rX, vY, bY) :=
            fun cs' yd c' hlt ho hT => sm_node_R hN hC hu hG hD1 hp' hlt rfl hn4 ho hT
          have JR : ∀ (yd : Int32) (c' : Nat → Int32), i_Rel (k + 5) (xa, xb, nI ML, nI SL, nI FL, nI RM, nI sc, nI fc, nI mc, nI us, nI D, dp, df, pl, pd, pc, pf, nI n, xfr, xht, kx, dx, cx, fx, tx, sp, fp, ff, ft, rt, ag, wk, nk, no, nl, cs, cn, cb, fM, fA, fI, fB, fP, fF, vx, bx) (nI RM, nI nb, nI us, nI D, pl, pd, pc, yd, yfr, yht, yst, yfa, md, mo, ky, d1, d2, po, bo, fo, nk, no, nbd, nl, cn, cb, c', rA, rN, rD, rC, rO, rX, vY, bY) := fun yd c' => sm_in hN hC hD
          have Y35 : ∀ (r : Int32) (X' : SX), us < RM → (∀ c' : Nat → Int32, (∀ j, j < n → c' j = cs j) → ∀ F : Int32 → SY → Prop,
              (r = 0 → ∀ yd c2, i_Rel (k + 5) X' (nI RM, nI nb, nI (us + 1), nI D, pl, pd, pc, yd, yfr, yht, yst, yfa, md, mo, ky, d1, d2, po, bo, fo, upd nk us v1, upd no us v2, upd nbd us (nI nb), upd nl us pl, cn, cb, c2, rA, rN, rD, rC, rO, rX, vY, bY) → F 0 (nI RM, nI nb, nI us, nI D, pl, pd, pc, yd, yfr, yht, yst, yfa, md, mo, ky, d1, d2, po, bo, fo, nk, no, nbd, nl, cn, cb, c2, rA, rN, rD, rC, rO, rX, vY, bY)) → (∀ yd c2, ¬ r = 0 → i_Rel (k + 5) X' (nI RM, nI nb, nI us, nI D, pl, pd, pc, yd, yfr, yht, yst, yfa, md, mo, ky, d1, d2, po, bo, fo, nk, no, nbd, nl, cn, cb, c2, rA, rN, rD, rC, rO, rX, vY, bY) → F r (nI RM, nI nb, nI us, nI D, pl, pd, pc, yd, yfr, yht, yst, yfa, md, mo, ky, d1, d2, po, bo, fo, nk, no, nbd, nl, cn, cb, c2, rA, rN, rD, rC, rO, rX, vY, bY)) → wpY_feed F (nI RM, nI nb, nI us, nI D, pl, pd, pc, nI n, yfr, yht, yst, yfa, md, mo, ky, d1, d2, po, bo, fo, nk, no, nbd, nl, cn, cb, c', rA, rN, rD, rC, rO, rX, vY, bY) v1 v2) → wY_node_35 (fun r' v' => r' = r ∧ i_Rel (k + 5) X' v') v1 v2 (nI RM) (nI nb) (nI us) (nI D) pl pd pc ydp yfr yht yst yfa md mo ky d1 d2 po bo fo nk no nbd nl cn cb ck rA rN rD rC rO rX vY bY := by
            intro r X' hlt hf
            refine br_t (nI_lt hlt (by omega)) (sm_rep hN hC hD (fun n' c' e1 e2 e3 => ?_))
            have en : n = n' := sm_inj e1 (by omega) (by omega)
            subst en
            refine hf c' e3 _ (fun hr yd c2 hrel => ?_) (fun yd c2 hr hrel => br_f hr ⟨rfl, hrel⟩)
            refine br_t rfl ⟨iu hlt, nm_r (e' := upd nk us v1) (by rw [cu]) ⟨iu hlt, nm_r (e' := upd no us v2) (by rw [cu]) ⟨iu hlt, nm_r (e' := upd nbd us (nI nb)) (by rw [cu]) ⟨iu hlt, nm_r (e' := upd nl us pl) (by rw [cu]) (nm_r (nI_1 us) ⟨hr.symm, hrel⟩)⟩⟩⟩⟩
          by_cases k5 : v1 = 5
          · refine br_t k5 (sm_xcmp C.1 C.2.1.1 C.2.1.2.1 ?_)
            have Ysp : ∀ q : Int32 → SY → Prop, ((0 ≤ sm_cmp kx mc dp v2 2 → wY_node_35 q v1 v2 (nI RM) (nI nb) (nI us) (nI D) pl pd pc ydp yfr yht yst yfa md mo ky d1 d2 po bo fo nk no nbd nl cn cb ck rA rN rD rC rO rX vY bY) ∧ (¬ 0 ≤ sm_cmp kx mc dp v2 2 → q (-1) (nI RM, nI nb, nI us, nI D, pl, pd, pc, ydp, yfr, yht, yst, yfa, md, mo, ky, d1, d2, po, bo, fo, nk, no, nbd, nl, cn, cb, ck, rA, rN, rD, rC, rO, rX, vY, bY))) → wpY_node q (nI RM, nI nb, nI us, nI D, pl, pd, pc, ydp, yfr, yht, yst, yfa, md, mo, ky, d1, d2, po, bo, fo, nk, no, nbd, nl, cn, cb, ck, rA, rN, rD, rC, rO, rX, vY, bY) v1 v2 := by
              intro q h
              obtain ⟨c1, ⟨c2, c3, c4⟩, ⟨c5, c6, c7⟩, c8, c9, c10⟩ := C
              exact br_t hp (br_f hv (br_f h5' (br_t k5 (sm_ycmp c1 c2 c3 c4 c5 c6 c7 c8 c9 c10 h))))
            rcases sm_cmp_sp (kx := kx) (x := v2) (kind := 2) C.1 C.2.1.1 C.2.1.2.1 with e | ⟨W, hW, rfl, hpl, hr, hkk, e⟩
            · rw [e]
              refine br_f sm_n1le (Ysp _ ?_)
              rw [e]
              exact br_f sm_n1le ⟨rfl, J⟩
            · have hq : W % 8 < 8 := Nat.mod_lt _ (by decide)
              have p0 : (0 : Int32) ≤ nI (8 * sm_rw dp W + W % 8) := nI_pos' (by omega)
              rw [e]
              refine br_t p0 ?_
              have Ygo : ∀ q : Int32 → SY → Prop, wY_node_35 q v1 (nI W) (nI RM) (nI nb) (nI us) (nI D) pl pd pc ydp yfr yht yst yfa md mo ky d1 d2 po bo fo nk no nbd nl cn cb ck rA rN rD rC rO rX vY bY → wpY_node q (nI RM, nI nb, nI us, nI D, pl, pd, pc, ydp, yfr, yht, yst, yfa, md, mo, ky, d1, d2, po, bo, fo, nk, no, nbd, nl, cn, cb, ck, rA, rN, rD, rC, rO, rX, vY, bY) v1 (nI W) := fun q h => Ysp q (by rw [e]; exact br_t p0 h)
              obtain ⟨y1, y2⟩ := (YD W hpl).2 hkk
              by_cases hlt : us < RM
              · refine br_t (nI_lt hlt (by omega)) (br_t k5 ⟨sm_80, sm_xcall hn4 (by omega) hW (fun d0 => br_f (by decide) (Ygo _ (Y35 _ _ hlt fun c' hc F f0 f1 => ?_))) (fun d1' hs => br_t rfl (sm_xkeep (by omega) (Ygo _ (Y35 _ _ hlt fun c' hc F f0 f1 => ?_)))) (fun d1' hs => br_f (by decide) (Ygo _ (Y35 _ _ hlt fun c' hc F f0 f1 => ?_)))⟩)
                · subst d0
                  exact sm_yf_miss (by rw [k5]; decide) (by rw [k5]; decide) (Or.inl ⟨k5, rfl⟩) (f1 _ _ (by decide) (JR _ _))
                · rw [k5]
                  refine sm_yf_call C hW hpl hkk d1' hn4 (fun _ => f0 rfl _ _ ?_) (fun z => absurd ?_ z)
                  · have ho : sm_ok v1 n := by rw [k5]; unfold sm_ok; rw [if_neg (by decide), if_pos rfl]; exact d1'
                    have hst : sm_st v1 n = n := by rw [k5]; unfold sm_st; rw [if_neg (by decide), if_pos rfl]
                    have K := REL (upd cs (n - 1) (sm_lf W (sm_mx cx (sm_rw dp W) (W % 8)))) (nI n) (upd c' (n - 1) (sm_lf W (sm_mx d2 (sm_rw dp W) (W % 8)))) hlt ho ⟨fun z => absurd (k5.symm.trans z) (by decide), fun z => absurd (k5.symm.trans z) (by decide), fun _ => ⟨fun j hj => pk_un (by omega), W, hW, rfl, hpl, hkk, hs, pk_us⟩, fun _ _ z => absurd k5 z⟩
                    rw [hst] at K
                    exact K
                  · rw [hc _ (by omega), y1]; exact hs
                · rw [k5]
                  refine sm_yf_call C hW hpl hkk d1' hn4 (fun z => absurd ?_ hs) (fun _ => f1 _ _ (by decide) (JR _ _))
                  rw [← hc _ (by omega), ← y1]; exact z
              · refine br_f (nI_nlt (by omega) (by omega)) (Ygo _ (br_f (nI_nlt (by omega) (by omega)) ⟨rfl, J⟩))
          · refine br_f k5 ?_
            have Ygo : ∀ q : Int32 → SY → Prop, wY_node_35 q v1 v2 (nI RM) (nI nb) (nI us) (nI D) pl pd pc ydp yfr yht yst yfa md mo ky d1 d2 po bo fo nk no nbd nl cn cb ck rA rN rD rC rO rX vY bY → wpY_node q (nI RM, nI nb, nI us, nI D, pl, pd, pc, ydp, yfr, yht, yst, yfa, md, mo, ky, d1, d2, po, bo, fo, nk, no, nbd, nl, cn, cb, ck, rA, rN, rD, rC, rO, rX, vY, bY) v1 v2 := fun q h => br_t hp (br_f hv (br_f h5' (br_f k5 h)))
            by_cases hlt : us < RM
            · refine br_t (nI_lt hlt (by omega)) (br_f k5 ?_)
              have push : ∀ t : Int32, (v1 = 0 ∧ t = pd) ∨ (v1 = 1 ∧ t = -1) → wX_node_96 (fun r u' => wpY_node (fun r' v' => r' = r ∧ i_Rel (k + 5) u' v') (nI RM, nI nb, nI us, nI D, pl, pd, pc, ydp, yfr, yht, yst, yfa, md, mo, ky, d1, d2, po, bo, fo, nk, no, nbd, nl, cn, cb, ck, rA, rN, rD, rC, rO, rX, vY, bY) v1 v2) v1 v2 t xa xb (nI ML) (nI SL) (nI FL) (nI RM) (nI sc) (nI fc) (nI mc) (nI us) (nI D) dp df pl pd pc pf (nI n) xfr xht kx dx cx fx tx sp fp ff ft rt ag wk nk no nl cs cn cb fM fA fI fB fP fF vx bx := by
                intro t ht
                unfold wX_node_96
                refine sm_xpush hn4 (fun h4 => br_t rfl (sm_xkeep (by omega) (Ygo _ (Y35 _ _ hlt fun c' hc F f0 f1 => ?_)))) (fun h4 => br_f (by decide) (Ygo _ (Y35 _ _ hlt fun c' hc F f0 f1 => ?_)))
                · have h01 : v1 = 0 ∨ v1 = 1 := ht.imp (fun z => z.1) (fun z => z.1)
                  have ho : sm_ok v1 n := by unfold sm_ok; rw [if_pos h01]; exact h4
                  refine sm_yf_push h4 ht (f0 rfl _ _ ?_)
                  have K := REL (upd cs n t) (nI (n + 1)) (upd c' n t) hlt ho ⟨fun z => ⟨fun j hj => pk_un (by omega), ?_⟩, fun z => ⟨fun j hj => pk_un (by omega), ?_⟩, fun z => absurd z k5, fun a b _ => absurd h01 (fun z => z.elim a b)⟩
                  · rw [(sm_ok0 h01 ho).2] at K
                    exact K
                  · rcases ht with ⟨_, e⟩ | ⟨e, _⟩
                    · rw [e]; exact pk_us
                    · rw [z] at e; exact absurd e (by decide)
                  · rcases ht with ⟨e, _⟩ | ⟨_, e⟩
                    · rw [z] at e; exact absurd e (by decide)
                    · rw [e]; exact pk_us
                · exact sm_yf_full (by omega) (by omega) (ht.imp (fun z => z.1) (fun z => z.1)) (f1 _ _ (by decide) (JR _ _))
              refine br_c (fun k0 => ?_) (fun k0 => br_c (fun k1 => ?_) (fun k1 => ?_))
              · exact br_t k0 (push pd (Or.inl ⟨k0, rfl⟩))
              · exact br_f k0 (push (-1) (Or.inr ⟨k1, rfl⟩))
              · refine sm_xari hn4 (fun h2 => br_f (by decide) (Ygo _ (Y35 _ _ hlt fun c' hc F f0 f1 => ?_))) (fun h2 s1 s2 => br_t rfl (sm_xkeep (by omega) (Ygo _ (Y35 _ _ hlt fun c' hc F f0 f1 => ?_)))) (fun h2 hs => br_f (by decide) (Ygo _ (Y35 _ _ hlt fun c' hc F f0 f1 => ?_)))
                · exact sm_yf_miss k0 k1 (Or.inr ⟨k5, h2⟩) (f1 _ _ (by decide) (JR _ _))
                · have ho : sm_ok v1 n := by unfold sm_ok; rw [if_neg (fun z => z.elim k0 k1), if_neg k5]; exact h2
                  refine sm_yf_ar k0 k1 k5 h2 hn4 (fun _ _ => f0 rfl _ _ ?_) (fun z => absurd ⟨?_, ?_⟩ z)
                  · have K := REL cs (nI (n - 1)) c' hlt ho ⟨fun z => absurd z k0, fun z => absurd z k1, fun z => absurd z k5, fun _ _ _ => ⟨fun _ _ => rfl, s1, s2⟩⟩
                    rw [(sm_oka k0 k1 k5 ho).2] at K
                    exact K
                  · rw [hc _ (by omega)]; exact s1
                  · rw [hc _ (by omega)]; exact s2
                · refine sm_yf_ar k0 k1 k5 h2 hn4 (fun a b => absurd ⟨?_, ?_⟩ hs) (fun _ => f1 _ _ (by decide) (JR _ _))
                  · rw [← hc _ (by omega)]; exact a
                  · rw [← hc _ (by omega)]; exact b
            · exact br_f (nI_nlt (by omega) (by omega)) (Ygo _ (br_f (nI_nlt (by omega) (by omega)) ⟨rfl, J⟩))
        · have h5' : 5 < v1 := Int32.not_le.mp h5
          exact br_f h5 (br_t hp (br_f hv (br_t h5' ⟨rfl, J⟩)))
    · exact br_f hp (br_f hp ⟨rfl, J⟩)
end
section
section sm_X
variable {xa xb xml xsl xfl xrm xsc xfc xmc xus dk dp df pl pd pc pf cd xfr xht : Int32} {kx dx cx fx tx sp fp ff ft rt ag wk nk no nl cs cn cb fM fA fI fB fP fF vx bx : Nat → Int32}
theorem sm_xfp {post : SX → Prop} (h : post (xa, xb, xml, xsl, xfl, xrm, xsc, xfc, xmc, xus, dk, dp, df, -1, pd, pc, pf, 0, xfr, xht, kx, dx, cx, fx, tx, sp, fp, ff, ft, rt, ag, wk, nk, no, nl, cs, cn, cb, fM, fA, fI, fB, fP, fF, vx, bx)) : wpX_forgetPending post (xa, xb, xml, xsl, xfl, xrm, xsc, xfc, xmc, xus, dk, dp, df, pl, pd, pc, pf, cd, xfr, xht, kx, dx, cx, fx, tx, sp, fp, ff, ft, rt, ag, wk, nk, no, nl, cs, cn, cb, fM, fA, fI, fB, fP, fF, vx, bx) := h
theorem sm_xfd {post : SX → Prop} (h : post (xa, xb, xml, xsl, xfl, xrm, xsc, xfc, xmc, xus, -1, -1, df, pl, pd, pc, pf, cd, xfr, xht, kx, dx, cx, fx, tx, sp, fp, ff, ft, rt, ag, wk, nk, no, nl, cs, cn, cb, fM, fA, fI, fB, fP, fF, vx, bx)) : wpX_forgetDraft post (xa, xb, xml, xsl, xfl, xrm, xsc, xfc, xmc, xus, dk, dp, df, pl, pd, pc, pf, cd, xfr, xht, kx, dx, cx, fx, tx, sp, fp, ff, ft, rt, ag, wk, nk, no, nl, cs, cn, cb, fM, fA, fI, fB, fP, fF, vx, bx) := h
end sm_X
section sm_R
variable {ML SL FL RM sc fc mc us nb : Nat} {xa xb dk dp df pl pd pc pf cd xfr xht ydp yfr yht yst yfa : Int32} {kx dx cx fx tx sp fp ff ft rt ag wk nk no nl cs cn cb fM fA fI fB fP fF vx bx md mo ky d1 d2 po bo fo nbd ck rA rN rD rC rO rX vY bY : Nat → Int32}
variable {uc D : Nat} {cost rk : Nat → Nat}
theorem sm_end_R {k L ud : Nat} {dr : Nat → Nat} {T : Nat → Nat → Int32} (hN : sm_Num ML SL FL RM sc fc mc nb md mo) (hC : sm_CL sc fc mc uc nb cost rk kx dx cx fx tx sp fp ff ft rt ag wk nk no nl ky d1 d2 po bo fo nbd) (hu : uc ≤ us ∧ us ≤ RM) (hG : ∀ k, uc ≤ k → k < us → nbd k = nI nb) (h : sm_D1 kx dx cx fx tx sp nk no nl ky d1 d2 po nbd cs sc mc uc us nb D dk dp df pl pd pc pf cd) (hz : D ≠ 0)
    (g1 : uc ≤ ud) (g2 : ud ≤ us) (g3 : ∀ l, l < 8 → sm_mx kx 0 l = 2 → dr l < sm_cnt (sm_mx kx 0))
    (g4 : sm_Bo (sm_mx kx 0) (sm_mx fx 0) (sm_mx tx 0) nk no nl nbd ud nb (sm_D2 kx sc dp) (sm_P2 kx) mc dr sm_T3)
    (g5 : ∀ k, uc ≤ k → k < ud → ∃ l, l < 8 ∧ nl k = nI l ∧ sm_mx kx 0 l = 2)
    (hL : L < 8) (kL : sm_mx kx 0 L = 0) (lL : ∀ k, ud ≤ k → k < us → nl k = nI L) (tp : sm_Ts (sm_DA kx D) (sm_DN kx sc dp) pd) (tc : sm_Ts (sm_DA kx D) (sm_DN kx sc dp) pc)
    (hT2 : ∀ n, ud + n < us → sm_ok (nk (ud + n)) (sm_sd nk ud n) ∧ sm_Tn kx dx cx sc mc dp pd (nk (ud + n)) (no (ud + n)) (sm_sd nk ud n) (T n) (T (n + 1))) (hsd : sm_sd nk ud (us - ud) = 1) :
    i_Rel k (xa, xb, nI ML, nI SL, nI FL, nI RM, nI sc, nI fc, nI mc, nI us, dk, dp, df, -1, pd, pc, pf, 0, xfr, xht, upd kx L 2, upd dx L pd, upd cx L pc, upd fx L (nI ud), upd tx L (nI us), sp, fp, ff, ft, rt, ag, wk, nk, no, nl, cs, cn, cb, fM, fA, fI, fB, fP, fF, vx, bx) (nI RM, nI nb, nI us, dk, -1, pd, pc, ydp, yfr, yht, yst, yfa, md, mo, upd ky L 2, upd d1 L pd, upd d2 L pc, po, bo, fo, nk, no, nbd, nl, cn, cb, ck, rA, rN, rD, rC, rO, rX, vY, bY) := by
  have hN' := hN
  obtain ⟨⟨n1, n2, n3, n4, n5, n6, n7⟩, ⟨hsc, hmc, hfc, hnb⟩, _, _⟩ := hN'
  have hB := hC.2.1
  obtain ⟨⟨e1, e2, e3, e4⟩, e5, e6, e7, L0, T0, z0, z1⟩ := h
  have kr : ∀ r, 1 ≤ r → sm_mx (upd kx L 2) r = sm_mx kx r := fun r hr => sm_uo hL (by omega)
  have k0 : ∀ l, sm_mx (upd kx L 2) 0 l = if l % 8 = L then 2 else sm_mx kx 0 l := fun l => sm_ut hL
  have kz : ∀ l, sm_mx kx 0 l ≠ 0 → sm_mx (upd kx L 2) 0 l = sm_mx kx 0 l := by
    intro l hl
    rw [k0, if_neg]
    intro e
    rw [← sm_mxm, e] at hl
    exact hl kL
  have k2 : ∀ l, sm_mx kx 0 l = 2 → sm_mx (upd kx L 2) 0 l = 2 := fun l e => by rw [kz l (by rw [e]; decide)]; exact e
  have nL : ∀ l, sm_mx kx 0 l = 2 → l ≠ L := by
    intro l e e'
    rw [e', kL] at e
    exact absurd e (by decide)
  have oth : ∀ (a : Nat → Int32) (x : Int32) l, l < 8 → l ≠ L → sm_mx (upd a L x) 0 l = sm_mx a 0 l := fun a x l h1 h2 => by rw [sm_ut hL, Nat.mod_eq_of_lt h1, if_neg h2]
  have at' : ∀ (a : Nat → Int32) (x : Int32), sm_mx (upd a L x) 0 L = x := fun a x => by rw [sm_ut hL, Nat.mod_eq_of_lt hL, if_pos rfl]
  have hDN : ∀ j, j < 8 → sm_DN kx sc dp j → sm_DN (upd kx L 2) sc dp j := fun j _ ⟨p, a, b, c⟩ => ⟨p, a, b, by rw [kr _ (by omega)]; exact c⟩
  have hDA : ∀ j, j < 8 → sm_DA kx D j → sm_DA (upd kx L 2) D j := fun j _ ⟨a, _⟩ => absurd a hz
  have hD2' : ∀ j, sm_D2 kx sc dp j → sm_D2 (upd kx L 2) sc dp j := fun j ⟨p, a, b, c⟩ => ⟨p, a, b, by rw [kr _ (by omega)]; exact c⟩
  have hP2 : ∀ m j, sm_P2 kx m j → sm_P2 (upd kx L 2) m j := fun m j hj => by unfold sm_P2 at hj ⊢; rw [kr _ (by omega)]; exact hj
  have hlow : ∀ k, k < uc → ¬ nbd k = nI nb := by
    intro k hk e
    obtain ⟨b, hb, eb⟩ := hB k hk
    rw [eb] at e
    have := sm_inj e (by omega) (by omega)
    omega
  have up := sm_cnt_up (k := sm_mx kx 0) (k' := sm_mx (upd kx L 2) 0) hL kL (by rw [at']; decide) (fun l hl hn => oth kx 2 l hl hn)
  refine sm_in (uc := uc) (cost := cost) (rk := rk) hN ?_ ⟨hu, hG, Or.inr ⟨D, ⟨e1, e2, e3, e4⟩, e5, e6, e7, fun l => ?_, fun l hl => ?_, fun z => absurd z hz, fun _ => ?_⟩⟩
  · exact sm_CL_draft (by omega) (by omega) (by omega) (by omega) (fun r hr => ⟨kr r hr, sm_uo hL (by omega), sm_uo hL (by omega), sm_uo hL (by omega), sm_uo hL (by omega)⟩) (fun r hr => ⟨sm_uo hL (by omega), sm_uo hL (by omega), sm_uo hL (by omega)⟩) (fun _ _ => rfl) (fun _ _ => ⟨rfl, rfl, rfl, rfl⟩) hC
  · rw [sm_ut hL, sm_ut hL, sm_ut hL, sm_ut hL, sm_ut hL, sm_ut hL]
    by_cases e : l % 8 = L
    · rw [if_pos e, if_pos e, if_pos e, if_pos e, if_pos e, if_pos e]
      exact ⟨rfl, Or.inr (Or.inr ⟨rfl, rfl, rfl⟩)⟩
    · rw [if_neg e, if_neg e, if_neg e, if_neg e, if_neg e, if_neg e]
      exact L0 l
  · rw [sm_ut hL, sm_ut hL]
    by_cases e : l % 8 = L
    · rw [if_pos e, if_pos e]
      exact ⟨sm_Ts_mono hDA hDN tp, sm_Ts_mono hDA hDN tc⟩
    · rw [if_neg e, if_neg e]
      rw [k0, if_neg e] at hl
      exact ⟨sm_Ts_mono hDA hDN (T0 l hl).1, sm_Ts_mono hDA hDN (T0 l hl).2⟩
  · have drL : (fun l => if l = L then sm_cnt (sm_mx kx 0) else dr l) L = sm_cnt (sm_mx kx 0) := if_pos rfl
    have drO : ∀ l, l ≠ L → (fun l => if l = L then sm_cnt (sm_mx kx 0) else dr l) l = dr l := fun l h => if_neg h
    refine ⟨fun l => if l = L then sm_cnt (sm_mx kx 0) else dr l, us, hu.1, Nat.le_refl _, fun l hl e => ?_, fun l hl e => ?_, fun i i1 i2 => ?_, Or.inl ⟨rfl, rfl, rfl⟩⟩
    · by_cases q : l = L
      · subst q; rw [drL]; omega
      · rw [drO l q]
        rw [oth kx 2 l hl q] at e
        have := g3 l hl e
        omega
    · by_cases q : l = L
      · subst q
        refine ⟨ud, us, at' fx _, at' tx _, ⟨g2, Nat.le_refl _, fun i hi => ?_⟩, fun n hn => (hT2 n hn).1, hsd, fun i i1 i2 i5 => ?_, trivial⟩
        · constructor
          · intro w
            refine ⟨Nat.le_of_not_lt fun z => ?_, hi⟩
            by_cases hi' : i < uc
            · exact hlow i hi' w.1
            · obtain ⟨l', hl', el', e'⟩ := g5 i (by omega) z
              rw [el'] at w
              exact nL l' e' (sm_inj w.2 (by omega) (by omega))
          · intro w
            exact ⟨hG i (by omega) hi, lL i w.1 w.2⟩
        · obtain ⟨n, rfl⟩ : ∃ n, i = ud + n := ⟨i - ud, by omega⟩
          obtain ⟨_, _, _, t5, _⟩ := hT2 n i2
          obtain ⟨_, W, hW, eW, hpl, hk2, _, _⟩ := t5 i5
          have hq : W % 8 < 8 := Nat.mod_lt _ (by decide)
          refine ⟨W, hW, eW, fun z => ?_, fun z => ?_, fun z => ?_⟩
          · rw [sm_rw0 z] at hk2
            have nq := nL _ hk2
            obtain ⟨a, c, _, et, ⟨_, oc, _⟩, _⟩ := g4 _ hq hk2
            refine ⟨k2 _ hk2, ?_, c, ?_, oc⟩
            · rw [drL, drO _ nq]; exact g3 _ hq hk2
            · rw [oth tx _ _ hq nq]; exact et
          · obtain ⟨p, hp, ep⟩ := hpl.1 z
            rw [sm_rw1 z, ep, nI_clamp (by omega)] at hk2
            exact ⟨p, hp, ep, by rw [kr _ (by omega)]; exact hk2⟩
          · rw [sm_rw2 z] at hk2
            exact ⟨hpl.2 z, hP2 _ _ hk2⟩
      · rw [oth kx 2 l hl q] at e
        obtain ⟨a, c, hb⟩ := g4 l hl e
        obtain ⟨b1, b2, b3, b4, b5, b6, b7⟩ := sm_B1_mono (u' := us) (P1' := sm_D2 (upd kx L 2) sc dp) (P2' := sm_P2 (upd kx L 2)) (lim' := mc) (dr' := fun l => if l = L then sm_cnt (sm_mx kx 0) else dr l) (Q' := sm_T3) hl e g2 (fun _ _ => ⟨rfl, rfl, rfl, rfl⟩) (fun i i1 i2 w => q (by rw [lL i i1 i2] at w; exact (sm_inj w.2 (by omega) (by omega)).symm)) hD2' (fun m j _ => hP2 m j) (Nat.le_refl _) (fun i j _ _ ei ej hij => by rw [if_neg (nL i ei), if_neg (nL j ej)]; exact hij) (fun _ => trivial) hb
        refine ⟨a, c, by rw [oth fx _ l hl q]; exact b1, by rw [oth tx _ l hl q]; exact b2, b3, b4, b5, fun i i1 i2 i5 => ?_, trivial⟩
        obtain ⟨W, hW, eW, c0, c1, c2⟩ := b6 i i1 i2 i5
        refine ⟨W, hW, eW, fun z => ?_, c1, c2⟩
        obtain ⟨x1, x2, x3, x4, x5⟩ := c0 z
        exact ⟨k2 _ x1, x2, x3, by rw [oth tx _ _ (Nat.mod_lt _ (by decide)) (nL _ x1)]; exact x4, x5⟩
    · by_cases hi : i < ud
      · obtain ⟨l, hl, el, e⟩ := g5 i i1 hi
        exact ⟨l, hl, el, k2 l e⟩
      · exact ⟨L, hL, lL i (by omega) i2, at' kx 2⟩
end sm_R
theorem i_vc_end {k : Nat} {u : SX} {v : SY} (I : i_Rel k u v) (hk : k + 5 ≤ 2564) : wpX_end (fun r u' => wpY_end (fun r' v' => r' = r ∧ i_Rel (k + 5) u' v') v) u := by
  refine sm_el (P := fun u v => i_Rel (k + 5) u v → wpX_end (fun r u' => wpY_end (fun r' v' => r' = r ∧ i_Rel (k + 5) u' v') v) u) ?_ I (i_up I)
  intro uc cost rk ML SL FL RM sc fc mc us nb xa xb dk dp df pl pd pc pf cd xfr xht ydp yfr yht yst yfa kx dx cx fx tx sp fp ff ft rt ag wk nk no nl cs cn cb fM fA fI fB fP fF vx bx md mo ky d1 d2 po bo fo nbd ck rA rN rD rC rO rX vY bY hN hC hD J
  obtain ⟨n, hn4, rfl⟩ := sm_cdn hD
  have hDD := hD
  obtain ⟨hu, hG, ⟨rfl, rfl, rfl, e0, rfl⟩ | ⟨D, hD1⟩⟩ := hDD
  · exact br_f sm_n1le (br_f sm_n1le ⟨rfl, J⟩)
  · by_cases hp : 0 ≤ pl
    · have hD1' := hD1
      obtain ⟨⟨e1, e2, e3, e4⟩, e5, e6, e7, L0, T0, z0, z1⟩ := hD1'
      have hz : D ≠ 0 := by
        intro hz
        rw [(z0 hz).2.1] at hp
        exact sm_n1le hp
      obtain ⟨dr, ud, g1, g2, g3, g4, g5, ⟨e, _⟩ | ⟨L, hL, rfl, kL, rfl, lL, tp, tc, ecd, T, hT1, hT2⟩⟩ := z1 hz
      · rw [e] at hp; exact absurd hp sm_n1le
      · have hsd : sm_sd nk ud (us - ud) ≤ 4 := sm_sd_le _ fun m hm => (hT2 m (by omega)).1
        have en : n = sm_sd nk ud (us - ud) := sm_inj ecd (by omega) (by omega)
        have JR : ∀ (yd : Int32) (c' : Nat → Int32), i_Rel (k + 5) (xa, xb, nI ML, nI SL, nI FL, nI RM, nI sc, nI fc, nI mc, nI us, dk, dp, df, nI L, pd, pc, nI ud, nI n, xfr, xht, kx, dx, cx, fx, tx, sp, fp, ff, ft, rt, ag, wk, nk, no, nl, cs, cn, cb, fM, fA, fI, fB, fP, fF, vx, bx) (nI RM, nI nb, nI us, dk, nI L, pd, pc, yd, yfr, yht, yst, yfa, md, mo, ky, d1, d2, po, bo, fo, nk, no, nbd, nl, cn, cb, c', rA, rN, rD, rC, rO, rX, vY, bY) := fun yd c' => sm_in hN hC hD
        have iL : vp_in (nI L) 424 := vp_in_nI (by omega) (by omega)
        have cL : (nI L).toNatClampNeg = L := nI_clamp (by omega)
        have Y : ∀ q : Int32 → SY → Prop, (∀ c' : Nat → Int32, (∀ j, j < n → c' j = cs j) → ((nI n = 0 → q (-5) (nI RM, nI nb, nI us, dk, nI L, pd, pc, nI n, yfr, yht, yst, yfa, md, mo, ky, d1, d2, po, bo, fo, nk, no, nbd, nl, cn, cb, c', rA, rN, rD, rC, rO, rX, vY, bY)) ∧ (¬ nI n = 0 → ((1 < nI n → q (-6) (nI RM, nI nb, nI us, dk, nI L, pd, pc, nI n, yfr, yht, yst, yfa, md, mo, ky, d1, d2, po, bo, fo, nk, no, nbd, nl, cn, cb, c', rA, rN, rD, rC, rO, rX, vY, bY)) ∧ (¬ 1 < nI n → ((c' 0 = pc → wpY_put (fun r u => match u with | (yrm, ynb, yus, ydk, ypl, ypd, ypc, ydp, yfr, yht, yst, yfa, md, mo, ky, d1, d2, po, bo, fo, ynk, yno, nbd, ynl, ycn, ycb, ck, rA, rN, rD, rC, rO, rX, vY, bY) => q 0 (yrm, ynb, yus, ydk, -1, ypd, ypc, ydp, yfr, yht, yst, yfa, md, mo, ky, d1, d2, po, bo, fo, ynk, yno, nbd, ynl, ycn, ycb, ck, rA, rN, rD, rC, rO, rX, vY, bY)) (nI RM, nI nb, nI us, dk, nI L, pd, pc, nI n, yfr, yht, yst, yfa, md, mo, ky, d1, d2, po, bo, fo, nk, no, nbd, nl, cn, cb, c', rA, rN, rD, rC, rO, rX, vY, bY) (nI L) 2 pd pc) ∧ (¬ c' 0 = pc → q (-6) (nI RM, nI nb, nI us, dk, nI L, pd, pc, nI n, yfr, yht, yst, yfa, md, mo, ky, d1, d2, po, bo, fo, nk, no, nbd, nl, cn, cb, c', rA, rN, rD, rC, rO, rX, vY, bY)))))))) → wpY_end q (nI RM, nI nb, nI us, dk, nI L, pd, pc, ydp, yfr, yht, yst, yfa, md, mo, ky, d1, d2, po, bo, fo, nk, no, nbd, nl, cn, cb, ck, rA, rN, rD, rC, rO, rX, vY, bY) := by
          intro q h
          refine br_t hp (sm_rep hN hC hD (fun n' c' x1 x2 x3 => ?_))
          have en' : n = n' := sm_inj x1 (by omega) (by omega)
          subst en'
          exact h c' x3
        refine br_t hp ?_
        by_cases c0 : n = 0
        · subst c0
          exact br_t rfl (Y _ fun c' hc => br_t rfl ⟨rfl, JR _ _⟩)
        · have d0 : ¬ nI n = 0 := nI_ne0 (by omega) (by omega)
          refine br_f d0 ?_
          by_cases c1 : n = 1
          · have d1' : ¬ (1 : Int32) < nI n := by rw [c1]; decide
            refine br_f d1' (br_c (fun ec => sm_xput hL ?_) (fun ec => Y _ fun c' hc => br_f d0 (br_f d1' (br_f (by rw [hc 0 (by omega)]; exact ec) ⟨rfl, JR _ _⟩))))
            refine ⟨iL, nm_r (e' := upd fx L (nI ud)) (by rw [cL]) ⟨iL, nm_r (e' := upd tx L (nI us)) (by rw [cL]) ?_⟩⟩
            refine sm_xfp (Y _ fun c' hc => br_f d0 (br_f d1' (br_t (by rw [hc 0 (by omega)]; exact ec) (sm_yput hL ⟨rfl, ?_⟩))))
            exact sm_end_R hN hC hu hG hD1 hz g1 g2 g3 g4 g5 hL kL lL tp tc hT2 (by omega)
          · have d1' : (1 : Int32) < nI n := nI_lt (a := 1) (by omega) (by omega)
            exact br_t d1' (Y _ fun c' hc => br_f d0 (br_t d1' ⟨rfl, JR _ _⟩))
    · exact br_f hp (br_f hp ⟨rfl, J⟩)
end
section
section sm_Y
variable {yrm ynb yus ydk ypl ypd ypc ydp yfr yht yst yfa : Int32} {md mo ky d1 d2 po bo fo ynk yno nbd ynl ycn ycb ck rA rN rD rC rO rX vY bY : Nat → Int32}
theorem sm_ydl {post : Int32 → SY → Prop} {us nb e : Nat} (hus : us ≤ 192) (he : e ≤ us) (hH : ∀ i, i < us → ((nbd i = nI nb ∧ (ypl < 0 ∨ ynl i = ypl)) ↔ e ≤ i))
    (h1 : 0 ≤ ypl → post 0 (yrm, nI nb, nI e, ydk, -1, ypd, ypc, ydp, yfr, yht, yst, yfa, md, mo, ky, d1, d2, po, bo, fo, ynk, yno, nbd, ynl, ycn, ycb, ck, rA, rN, rD, rC, rO, rX, vY, bY)) (h2 : ¬ 0 ≤ ypl → post 0 (yrm, nI nb, nI e, -1, -1, ypd, ypc, ydp, yfr, yht, yst, yfa, md, mo, ky, d1, d2, po, bo, fo, ynk, yno, nbd, ynl, ycn, ycb, ck, rA, rN, rD, rC, rO, rX, vY, bY)) : ∃ n, wY_drop_17 post yrm (nI nb) ydk ypl ypd ypc ydp yfr yht yst yfa md mo ky d1 d2 po bo fo ynk yno nbd ynl ycn ycb ck rA rN rD rC rO rX vY bY n (nI us - 1) (nI us) := by
  have key : ∀ k, k ≤ us → ∀ x, x = nI k + (-1) → wY_drop_17 post yrm (nI nb) ydk ypl ypd ypc ydp yfr yht yst yfa md mo ky d1 d2 po bo fo ynk yno nbd ynl ycn ycb ck rA rN rD rC rO rX vY bY (k + 1) x (nI (if e ≤ k then k else e)) := by
    intro k
    induction k with
    | zero =>
      intro hk x hx
      have ex : x = -1 := by rw [hx]; decide
      have ee : (if e ≤ 0 then 0 else e) = e := by split <;> omega
      subst ex
      rw [ee]
      exact br_t sm_n1lt (br_c h1 h2)
    | succ k ih =>
      intro hk x hx
      have ex : x = nI k := by rw [hx]; exact pk_m1 k
      subst ex
      have ik : vp_in (nI k) 192 := vp_in_nI (by omega) (by omega)
      have ck' : (nI k).toNatClampNeg = k := nI_clamp (by omega)
      have K := ih (by omega) _ rfl
      have hh := hH k (by omega)
      have yes : e ≤ k → wY_drop_17 post yrm (nI nb) ydk ypl ypd ypc ydp yfr yht yst yfa md mo ky d1 d2 po bo fo ynk yno nbd ynl ycn ycb ck rA rN rD rC rO rX vY bY (k + 1) (nI k + (-1)) (nI k) := by
        intro z
        rw [if_pos z] at K
        exact K
      have nno : ¬ e ≤ k → wY_drop_17 post yrm (nI nb) ydk ypl ypd ypc ydp yfr yht yst yfa md mo ky d1 d2 po bo fo ynk yno nbd ynl ycn ycb ck rA rN rD rC rO rX vY bY (k + 1) (nI k + (-1)) (nI (if e ≤ k + 1 then k + 1 else e)) := by
        intro z
        rw [if_neg z] at K
        rw [show (if e ≤ k + 1 then k + 1 else e) = e by split <;> omega]
        exact K
      unfold wY_drop_17
      rw [ck']
      refine br_f (nI_pos (by omega)) ⟨ik, br_c (fun a => br_c (fun b => nm_e (yes (hh.mp ⟨a, Or.inl b⟩))) (fun b => ⟨ik, br_c (fun c => nm_e (yes (hh.mp ⟨a, Or.inr c⟩))) (fun c => nm_e (nno fun z => ?_))⟩)) (fun a => nm_e (nno fun z => a (hh.mpr z).1))⟩
      rcases (hh.mpr z).2 with w | w
      · exact b w
      · exact c w
  have K := key us (Nat.le_refl _) (nI us - 1) (by rw [Int32.sub_eq_add_neg])
  rw [if_pos he] at K
  exact ⟨_, K⟩
end sm_Y
theorem i_vc_drop {k : Nat} {u : SX} {v : SY} (I : i_Rel k u v) (hk : k + 5 ≤ 2564) : wpX_drop (fun r u' => wpY_drop (fun r' v' => r' = r ∧ i_Rel (k + 5) u' v') v) u := by
  refine sm_el (P := fun u v => i_Rel (k + 5) u v → wpX_drop (fun r u' => wpY_drop (fun r' v' => r' = r ∧ i_Rel (k + 5) u' v') v) u) ?_ I (i_up I)
  intro uc cost rk ML SL FL RM sc fc mc us nb xa xb dk dp df pl pd pc pf cd xfr xht ydp yfr yht yst yfa kx dx cx fx tx sp fp ff ft rt ag wk nk no nl cs cn cb fM fA fI fB fP fF vx bx md mo ky d1 d2 po bo fo nbd ck rA rN rD rC rO rX vY bY hN hC hD J
  have hN' := hN
  obtain ⟨⟨n1, n2, n3, n4, n5, n6, n7⟩, ⟨hsc, hmc, hfc, hnb⟩, _, _⟩ := hN'
  have hB := hC.2.1
  have hlow : ∀ k, k < uc → ¬ nbd k = nI nb := by
    intro k hk e
    obtain ⟨b, hb, eb⟩ := hB k hk
    rw [eb] at e
    have := sm_inj e (by omega) (by omega)
    omega
  obtain ⟨hu, hG, ⟨rfl, rfl, rfl, rfl, rfl⟩ | ⟨D, hD1⟩⟩ := hD
  · exact br_f sm_n1le (br_f sm_n1le ⟨rfl, J⟩)
  · have hD1' := hD1
    obtain ⟨⟨e1, rfl, rfl, e4⟩, e5, e6, e7, L0, T0, z0, z1⟩ := hD1'
    have hd : (0 : Int32) ≤ nI D := nI_pos' (by omega)
    refine br_t hd (br_c (fun hp => ?_) (fun hp => ?_))
    · have hp' : ¬ 0 ≤ pl := Int32.not_le.mpr hp
      have ecd : cd = 0 := by
        by_cases hz : D = 0
        · exact (z0 hz).2.2
        · obtain ⟨dr, ud, g1, g2, g3, g4, g5, ⟨_, e, _⟩ | ⟨L, hL, e, _⟩⟩ := z1 hz
          · exact e
          · rw [e] at hp; exact absurd hp (nI_pos (by omega))
      have epl : pl = -1 := by
        by_cases hz : D = 0
        · exact (z0 hz).2.1
        · obtain ⟨dr, ud, g1, g2, g3, g4, g5, ⟨e, _⟩ | ⟨L, hL, e, _⟩⟩ := z1 hz
          · exact e
          · rw [e] at hp; exact absurd hp (nI_pos (by omega))
      subst epl ecd
      refine sm_xfd (br_t hd (nm_e (sm_ydl (e := uc) (by omega) hu.1 (fun i hi => ⟨fun z => Nat.le_of_not_lt fun w => hlow i w z.1, fun z => ⟨hG i z hi, Or.inl hp⟩⟩) (fun z => absurd z hp') (fun _ => ⟨rfl, ?_⟩))))
      exact sm_in (uc := uc) (cost := cost) (rk := rk) hN hC ⟨⟨Nat.le_refl _, by omega⟩, fun k a b => absurd a (by omega), Or.inl ⟨rfl, rfl, rfl, rfl, rfl⟩⟩
    · have hp' : 0 ≤ pl := Int32.not_lt.mp hp
      have hz : D ≠ 0 := by
        intro hz
        rw [(z0 hz).2.1] at hp
        exact hp sm_n1lt
      obtain ⟨dr, ud, g1, g2, g3, g4, g5, ⟨e, _⟩ | ⟨L, hL, rfl, kL, rfl, lL, tp, tc, ecd, T, hT1, hT2⟩⟩ := z1 hz
      · rw [e] at hp; exact absurd sm_n1lt hp
      · refine sm_xfp (br_t hd (nm_e (sm_ydl (e := ud) (by omega) g2 (fun i hi => ⟨fun z => Nat.le_of_not_lt fun w => ?_, fun z => ⟨hG i (by omega) hi, Or.inr (lL i z hi)⟩⟩) (fun _ => ⟨rfl, ?_⟩) (fun z => absurd hp' z))))
        · rcases z.2 with q | q
          · exact hp q
          · by_cases hi' : i < uc
            · exact hlow i hi' z.1
            · obtain ⟨l, hl, el, e⟩ := g5 i (by omega) w
              rw [el] at q
              have := sm_inj q (by omega) (by omega)
              rw [this, kL] at e
              exact absurd e (by decide)
        · exact sm_in (uc := uc) (cost := cost) (rk := rk) hN hC ⟨⟨g1, by omega⟩, fun k a b => hG k a (by omega), Or.inr ⟨D, ⟨e1, rfl, rfl, e4⟩, e5, e6, e7, L0, T0, fun z => absurd z hz, fun _ => ⟨dr, ud, g1, Nat.le_refl _, g3, g4, g5, Or.inl ⟨rfl, rfl, rfl⟩⟩⟩⟩
end
section
theorem sm_trsb {dx d1 fo : Nat → Int32} {n : Nat} {g t : Int32} (hn : n < 16) (hg : (g = -1 ∧ fo (9 + n) = -1) ∨ ∃ a, a < n ∧ g = nI a ∧ fo (9 + n) = nI (9 + a))
    (hB : ∀ j, j < 8 → t = nI (8 + j) → ∃ a, a < n ∧ g = nI a ∧ sm_mx d1 (9 + a) j = sm_mx dx (9 + a) j) : sm_tr dx n g t = sm_sb d1 fo (9 + n) t := by
  rcases sm_t4 t with h4 | ⟨j, hj, rfl⟩ | ⟨j, hj, rfl⟩ | ⟨k, h16, hk, rfl⟩
  · rw [sm_tr_neg h4, sm_sb_neg h4]
  · rw [sm_tr_own hj, sm_sb_own (by omega) (by omega) hj, show 9 + n - 9 = n by omega]
  · obtain ⟨a, ha, eg, em⟩ := hB j hj rfl
    subst eg
    rcases hg with ⟨e, _⟩ | ⟨a', ha', e, ef⟩
    · exact absurd e (sm_ne1 (by omega))
    · have := sm_inj e (by omega) (by omega)
      subst this
      rw [sm_tr_par hj (by omega), sm_sb_par (by omega) (by omega) hj (by omega) ef, em]
  · rw [sm_tr_big h16 hk, sm_sb_big h16 hk]
theorem sm_tr_rng {dx : Nat → Int32} {n : Nat} {g t : Int32} (hn : n < 16)
    (hB : ∀ j, j < 8 → t = nI (8 + j) → ∃ a, a < n ∧ g = nI a ∧ sm_Ts (fun _ => False) (fun _ => False) (sm_mx dx (9 + a) j)) : sm_Ts (fun _ => False) (fun _ => False) (sm_tr dx n g t) := by
  rcases sm_t4 t with h4 | ⟨j, hj, rfl⟩ | ⟨j, hj, rfl⟩ | ⟨k, h16, hk, rfl⟩
  · rw [sm_tr_neg h4]
    exact ⟨fun i hi e => nI_pos (by omega) (e ▸ h4), fun i hi e => nI_pos (by omega) (e ▸ h4)⟩
  · rw [sm_tr_own hj]
    refine ⟨fun i hi e => ?_, fun i hi e => ?_⟩
    · have := sm_inj e (by omega) (by omega); omega
    · have := sm_inj e (by omega) (by omega); omega
  · obtain ⟨a, ha, eg, em⟩ := hB j hj rfl
    subst eg
    rw [sm_tr_par hj (by omega)]
    exact em
  · rw [sm_tr_big h16 hk]
    refine ⟨fun i hi e => ?_, fun i hi e => ?_⟩
    · have := sm_inj e hk (by omega); omega
    · have := sm_inj e hk (by omega); omega
section sm_P
variable {sc fc mc uc nb uc' nb' : Nat} {cost rk cost' rk' : Nat → Nat} {kx dx cx fx tx sp fp ff ft rt ag wk nk no nl ky d1 d2 po bo fo nbd kx' dx' cx' fx' tx' sp' fp' ff' ft' rt' ag' wk' nk' no' nl' ky' d1' d2' po' bo' fo' nbd' : Nat → Int32}
theorem sm_callee {j : Nat} (hm16 : mc ≤ 16) (Md : ∀ q, q < mc → sm_Mod kx dx cx fx tx ky d1 d2 bo fo rt ag wk nk no nl nbd cost rk uc nb q) {m : Nat} (hm : m < mc) (hj : j < 8) (h : sm_mx kx (9 + m) j = 2) : ∃ r, r ≤ m ∧ rt m = nI r ∧ rt r = nI r ∧ sm_mx kx (31 + r) j = 2 ∧ wk (8 * r + j) = nI (sm_cap (cost (8 * r + j))) := by
  obtain ⟨_, _, r, hr, e1, e2, h3, _, _⟩ := Md m hm
  have hk := h3 j h
  obtain ⟨_, _, r', hr', e1', _, _, _, h5'⟩ := Md r (by omega)
  have er : r' = r := sm_inj (e1'.symm.trans e2) (by omega) (by omega)
  subst er
  obtain ⟨b, _, _, _, _, g4⟩ := h5' rfl
  exact ⟨r', hr, e1, e2, hk, (g4 j hj hk).2.1⟩
theorem sm_CL_add (E : sm_Eq sc fc mc uc nb cost rk cost' rk' kx dx cx fx tx sp fp ff ft rt ag wk nk no nl ky d1 d2 po bo fo nbd kx' dx' cx' fx' tx' sp' fp' ff' ft' rt' ag' wk' nk' no' nl' ky' d1' d2' po' bo' fo' nbd') (hs8 : sc ≤ 8) (hm : mc ≤ 16) (hf6 : fc ≤ 6) (hnb : nb ≤ 22) (hu : uc ≤ uc') (hb : nb ≤ nb') (hx : ∀ k, uc ≤ k → k < uc' → ∀ b, b < nb → ¬ nbd' k = nI b) (h : sm_CL sc fc mc uc nb cost rk kx dx cx fx tx sp fp ff ft rt ag wk nk no nl ky d1 d2 po bo fo nbd)
    (hw : ∀ i, 8 * (mc + 1) ≤ i → wk' i = 0) (hn : ∀ k, k < uc' → ∃ b, b < nb' ∧ nbd' k = nI b) (hq : sm_Mod kx' dx' cx' fx' tx' ky' d1' d2' bo' fo' rt' ag' wk' nk' no' nl' nbd' cost' rk' uc' nb' mc) : sm_CL sc fc (mc + 1) uc' nb' cost' rk' kx' dx' cx' fx' tx' sp' fp' ff' ft' rt' ag' wk' nk' no' nl' ky' d1' d2' po' bo' fo' nbd' := by
  obtain ⟨a, b, c⟩ := sm_CL3 (sc' := sc) (mc' := mc + 1) E hs8 hm hf6 hnb hu hb (Nat.le_refl _) (Nat.le_succ _) hx h
  refine ⟨hw, hn, a, fun q hq' => ?_, c⟩
  by_cases e : q = mc
  · subst e; exact hq
  · exact b q (by omega)
theorem sm_meas_ok {b a0 c0 : Nat} {k f t : Nat → Int32} {P1 : Nat → Prop} {dr : Nat → Nat} {g : Int32} (hm16 : mc < 16) (hu192 : uc' ≤ 192) (Md : ∀ q, q < mc → sm_Mod kx dx cx fx tx ky d1 d2 bo fo rt ag wk nk no nl nbd cost rk uc nb q) (hR : ∀ q, q < mc → rt' q = rt q)
    (hag : ag' mc = g) (hrt : rt' mc = nI mc) (hBo : sm_Bo k f t nk no nl nbd uc' b P1 (sm_P2 kx) mc dr sm_T3) (hP1 : ∀ j, P1 j → ∃ a, a < mc ∧ g = nI a ∧ sm_mx kx (9 + a) j = 2)
    (hc0 : c0 ≤ uc') (hnod : ∀ i, i < uc' → (nbd i = nI b ↔ (a0 ≤ i ∧ i < c0))) (hlab : ∀ i, a0 ≤ i → i < c0 → ∃ l, l < 8 ∧ nl i = nI l ∧ k l = 2) :
    ∀ i, a0 ≤ i → i < c0 → ∃ L, L < 8 ∧ nl i = nI L ∧ (nk i = 5 → ∃ W m r, W < 2 ^ 31 ∧ no i = nI W ∧ ((W / 8 = 0 → m = mc) ∧ (W / 8 = 1 → ag' mc = nI m) ∧ (2 ≤ W / 8 → m = W / 8 - 2)) ∧ m < 16 ∧ r < 16 ∧ rt' m = nI r ∧ (W / 8 = 0 → r = mc) ∧ (W / 8 ≠ 0 → r ≠ mc ∧ wk (8 * r + W % 8) = nI (sm_cap (cost (8 * r + W % 8))))) := by
  intro i i1 i2
  obtain ⟨l, hl, el, kl⟩ := hlab i i1 i2
  refine ⟨l, hl, el, fun h5 => ?_⟩
  obtain ⟨a, c, _, _, ⟨_, _, o⟩, _, _, hC, _⟩ := hBo l hl kl
  obtain ⟨o1, o2⟩ := (o i (by omega)).mp ⟨(hnod i (by omega)).mpr ⟨i1, i2⟩, el⟩
  obtain ⟨W, hW, eW, c0', c1', c2'⟩ := hC i o1 o2 h5
  have hq : W % 8 < 8 := Nat.mod_lt _ (by decide)
  by_cases z0 : W / 8 = 0
  · exact ⟨W, mc, mc, hW, eW, ⟨fun _ => rfl, fun z => by omega, fun z => by omega⟩, hm16, hm16, hrt, fun _ => rfl, fun z => absurd z0 z⟩
  · by_cases z1 : W / 8 = 1
    · obtain ⟨a', ha', eg, ek⟩ := hP1 _ (c1' z1)
      obtain ⟨r, hr, er1, er2, _, ew⟩ := sm_callee (by omega) Md ha' hq ek
      exact ⟨W, a', r, hW, eW, ⟨fun z => absurd z z0, fun _ => hag.trans eg, fun z => by omega⟩, by omega, by omega, (hR a' ha').trans er1, fun z => absurd z z0, fun _ => ⟨by omega, ew⟩⟩
    · obtain ⟨ha', ek⟩ := c2' (by omega)
      obtain ⟨r, hr, er1, er2, _, ew⟩ := sm_callee (by omega) Md ha' hq ek
      exact ⟨W, W / 8 - 2, r, hW, eW, ⟨fun z => absurd z z0, fun z => absurd z z1, fun _ => rfl⟩, by omega, by omega, (hR _ ha').trans er1, fun z => absurd z z0, fun _ => ⟨by omega, ew⟩⟩
theorem sm_newroot {fr br b a0 c0 : Nat} {B P1 : Nat → Prop} {dr : Nat → Nat} {g : Int32} (hm16 : mc < 16) (hnb : nb ≤ 22) (hb22 : b < 22) (hu192 : uc' ≤ 192) (E : sm_Eq sc fc mc uc nb cost rk cost' rk' kx dx cx fx tx sp fp ff ft rt ag wk nk no nl ky d1 d2 po bo fo nbd kx' dx' cx' fx' tx' sp' fp' ff' ft' rt' ag' wk' nk no nl ky' d1' d2' po' bo' fo' nbd) (Md : ∀ q, q < mc → sm_Mod kx dx cx fx tx ky d1 d2 bo fo rt ag wk nk no nl nbd cost rk uc nb q)
    (r1 : sm_mx kx' (9 + mc) = sm_mx kx fr) (r2 : ∀ l, sm_mx dx' (9 + mc) l = sm_tr dx mc g (sm_mx dx fr l)) (r3 : ∀ l, sm_mx cx' (9 + mc) l = sm_tr dx mc g (sm_mx cx fr l))
    (r4 : sm_mx ky' (9 + mc) = sm_mx ky fr) (r5 : ∀ l, sm_mx d1' (9 + mc) l = sm_sb d1 fo' (9 + mc) (sm_mx d1 fr l)) (r6 : ∀ l, sm_mx d2' (9 + mc) l = sm_sb d1 fo' (9 + mc) (sm_mx d2 fr l))
    (s1 : sm_mx kx' (31 + mc) = sm_mx kx br) (s2 : ∀ l, sm_mx dx' (31 + mc) l = sm_tr dx mc g (sm_mx dx br l)) (s3 : ∀ l, sm_mx cx' (31 + mc) l = sm_tr dx mc g (sm_mx cx br l)) (s4 : sm_mx fx' (31 + mc) = sm_mx fx br) (s5 : sm_mx tx' (31 + mc) = sm_mx tx br)
    (L : sm_LR kx dx cx ky d1 d2 fr) (T : sm_Tr sm_T1 B (sm_mx kx fr) (sm_mx dx fr) (sm_mx cx fr)) (hB : ∀ j, j < 8 → B j → ∃ a, a < mc ∧ g = nI a ∧ sm_mx kx (9 + a) j ≠ 0) (sub : ∀ l, sm_mx kx fr l = 2 → sm_mx kx br l = 2)
    (hbt : ∀ l, sm_mx kx br l = 2 → sm_mx d1' (31 + b) l = sm_mx dx br l ∧ sm_mx d2' (31 + b) l = sm_mx cx br l ∧ sm_Ts sm_T1 B (sm_mx dx br l) ∧ sm_Ts sm_T1 B (sm_mx cx br l))
    (hbo : bo' (9 + mc) = nI b) (hbn : b < nb') (hg : (g = -1 ∧ fo' (9 + mc) = -1) ∨ ∃ a, a < mc ∧ g = nI a ∧ fo' (9 + mc) = nI (9 + a)) (hag : ag' mc = g) (hrt : rt' mc = nI mc)
    (hBo : sm_Bo (sm_mx kx br) (sm_mx fx br) (sm_mx tx br) nk no nl nbd uc' b P1 (sm_P2 kx) mc dr sm_T3) (hP1 : ∀ j, P1 j → ∃ a, a < mc ∧ g = nI a ∧ sm_mx kx (9 + a) j = 2)
    (hdr : ∀ l, l < 8 → sm_mx kx br l = 2 → dr l < 8) (hrk : ∀ l, l < 8 → rk' (8 * mc + l) = 8 * mc + dr l) (hcost : cost' = sm_cs cost mc (sm_ct nk no nl rt' ag' cost mc a0 (c0 - a0)))
    (hwk : ∀ l, l < 8 → wk' (8 * mc + l) = nI (sm_cap (sm_ct nk no nl rt' ag' cost mc a0 (c0 - a0) l)))
    (hc0 : c0 ≤ uc') (hnod : ∀ i, i < uc' → (nbd i = nI b ↔ (a0 ≤ i ∧ i < c0))) :
    sm_Mod kx' dx' cx' fx' tx' ky' d1' d2' bo' fo' rt' ag' wk' nk no nl nbd cost' rk' uc' nb' mc := by
  obtain ⟨E1, E2, E3, E4, E5, E6, E7, E8⟩ := E
  have lx9 : ∀ p, p < mc → sm_lx sc fc mc (9 + p) := fun p hp => Or.inr (Or.inl ⟨by omega, by omega⟩)
  have hT : ∀ t, sm_Ts sm_T1 B t → sm_tr dx mc g t = sm_sb d1 fo' (9 + mc) t ∧ sm_Ts (fun _ => False) (fun _ => False) (sm_tr dx mc g t) := by
    intro t ht
    have key : ∀ j, j < 8 → t = nI (8 + j) → ∃ a, a < mc ∧ g = nI a ∧ sm_mx kx (9 + a) j ≠ 0 := fun j hj e => hB j hj (ht.2 j hj e)
    refine ⟨sm_trsb hm16 hg (fun j hj e => ?_), sm_tr_rng hm16 (fun j hj e => ?_)⟩
    · obtain ⟨a, ha, eg, nz⟩ := key j hj e
      exact ⟨a, ha, eg, sm_LR_12' (Md a ha).1 nz⟩
    · obtain ⟨a, ha, eg, nz⟩ := key j hj e
      exact ⟨a, ha, eg, ((Md a ha).2.1 j nz).1⟩
  refine ⟨fun l => ?_, fun l hl => ?_, mc, Nat.le_refl _, hrt, hrt, fun l hl => ?_, fun z => absurd rfl z, fun _ => ⟨b, hbn, hbo, ?_, fun l hl hk => ?_, fun l hl hk => ?_⟩⟩
  · rw [r1, r2, r3, r4, r5, r6]
    refine ⟨(L l).1, ?_⟩
    rcases (L l).2 with e | ⟨e1, e2, e3, e4⟩ | ⟨e1, e2, e3⟩
    · exact Or.inl e
    · have nz : sm_mx kx fr l ≠ 0 := by rw [e1]; decide
      refine Or.inr (Or.inl ⟨e1, by rw [e2], ?_, ?_⟩)
      · rw [e3]; exact (hT _ (T l nz).1).1.symm
      · rw [e4]; exact sm_sb_neg (by decide)
    · have nz : sm_mx kx fr l ≠ 0 := by rw [e1]; decide
      refine Or.inr (Or.inr ⟨e1, ?_, ?_⟩)
      · rw [e2]; exact (hT _ (T l nz).1).1.symm
      · rw [e3]; exact (hT _ (T l nz).2).1.symm
  · rw [r1] at hl
    rw [r2, r3]
    exact ⟨(hT _ (T l hl).1).2, (hT _ (T l hl).2).2⟩
  · rw [r1] at hl
    rw [s1]
    exact sub l hl
  · rw [hag]; exact hg
  · rw [s1] at hk
    obtain ⟨a, c, hb1⟩ := hBo l hl hk
    have hb1' := hb1
    obtain ⟨f1, f2, ⟨o1, o2, o3⟩, o4, o5, hCa, _⟩ := hb1'
    have hac : a < c := by
      refine Nat.lt_of_not_le fun z => ?_
      have : c - a = 0 := by omega
      rw [this] at o5
      exact absurd o5 (show ¬ (0 : Nat) = 1 by omega)
    have ha0 := (hnod a (by omega)).mp ((o3 a (by omega)).mpr ⟨Nat.le_refl _, hac⟩).1
    have hcc := (hnod (c - 1) (by omega)).mp ((o3 (c - 1) (by omega)).mpr ⟨by omega, by omega⟩).1
    refine ⟨a, c, ?_⟩
    rw [s1, s4, s5]
    refine sm_B1_mono hl hk (Nat.le_refl _) (fun _ _ => ⟨rfl, rfl, rfl, rfl⟩) (fun i i1 i2 => absurd i1 (by omega)) (fun j hj => ?_) (fun m j hm hj => ?_) (Nat.le_refl _) (fun i j hi hj _ _ hij => ?_) (fun _ => ?_) hb1
    · obtain ⟨a', h1, h2, h3⟩ := hP1 j hj
      exact ⟨a', h1, by rw [hag]; exact h2, by rw [(E1 _ (lx9 a' h1)).1]; exact h3⟩
    · unfold sm_P2 at hj ⊢
      rw [(E1 _ (lx9 m hm)).1]; exact hj
    · rw [hrk i hi, hrk j hj]; omega
    · rw [hcost]
      refine sm_ct_eq hl (by omega) o1 (by omega) (fun k k1 k2 => ?_) (fun k k1 k2 k5 => ?_)
      · have hb := (hnod k (by omega)).mpr ⟨k1, k2⟩
        exact ⟨fun z => (o3 k (by omega)).mp ⟨hb, z⟩, fun z => ((o3 k (by omega)).mpr z).2⟩
      · obtain ⟨W, hW, eW, x0, x1, x2⟩ := hCa k k1 k2 k5
        have hq : W % 8 < 8 := Nat.mod_lt _ (by decide)
        refine ⟨W, hW, eW, fun z k' k1' k2' w => ?_, fun z => ?_⟩
        · obtain ⟨y1, _, c', y3, y4⟩ := x0 z
          obtain ⟨a'', c'', _, f2', ⟨_, p2, p3⟩, _⟩ := hBo _ hq y1
          have ec := sm_inj (y3.symm.trans f2') (by omega) (by omega)
          have := (p3 k' (by omega)).mp ⟨(hnod k' (by omega)).mpr ⟨by omega, by omega⟩, w⟩
          omega
        · have ro := sm_ro_lt (by omega) Md
          unfold sm_ce
          rw [if_neg z]
          by_cases z1 : W / 8 = 1
          · rw [if_pos z1, hag]
            obtain ⟨a', h1, h2, _⟩ := hP1 _ (x1 z1)
            rw [h2, nI_clamp (by omega)]
            have := ro a' h1
            unfold sm_ro at this ⊢
            rw [(E5 a' h1).1]
            omega
          · rw [if_neg z1]
            have h1 := (x2 (by omega)).1
            have := ro _ h1
            unfold sm_ro at this ⊢
            rw [(E5 _ h1).1]
            omega
  · rw [s1] at hk
    obtain ⟨t1, t2, t3, t4⟩ := hbt l hk
    have hf : ∀ t, sm_sb d1 fo' (9 + mc) t = sm_sb d1' fo' (9 + mc) t := by
      refine fun t => sm_sb_congr rfl (fun _ _ => hg.imp (fun z => z.2) (fun ⟨a, ha, _, ea⟩ => ⟨9 + a, by omega, ea, ?_⟩)) t
      exact ((E2 (9 + a) (Or.inr (Or.inl ⟨by omega, by omega⟩))).2.1).symm
    have := hdr l hl hk
    refine ⟨by rw [hrk l hl]; omega, ?_, ?_, ?_⟩
    · rw [hwk l hl, hcost]
      unfold sm_cs
      rw [if_pos (by omega), show (8 * mc + l) % 8 = l by omega]
    · rw [s2, t1, ← hf]; exact (hT _ t3).1
    · rw [s3, t2, ← hf]; exact (hT _ t4).1
end sm_P
end
section
def sm_ck (a : Nat → Int32) (fr br n : Nat) : Nat → Int32 := sm_cp (sm_cp a fr (9 + n) 8) br (31 + n) 8
def sm_d9 (a dx : Nat → Int32) (fr n : Nat) (g : Int32) : Nat → Int32 := sm_mp (sm_cp a fr (9 + n) 8) (sm_tr dx n g) (9 + n) 8
def sm_dd (a dx : Nat → Int32) (fr br n : Nat) (g : Int32) : Nat → Int32 := sm_mp (sm_cp (sm_d9 a dx fr n g) br (31 + n) 8) (sm_tr (sm_d9 dx dx fr n g) n g) (31 + n) 8
theorem sm_ck_9 {a : Nat → Int32} {fr br n : Nat} : sm_mx (sm_ck a fr br n) (9 + n) = sm_mx a fr := by
  unfold sm_ck; rw [sm_cpo (by omega), sm_cpt]
theorem sm_ck_31 {a : Nat → Int32} {fr br n : Nat} (h : br ≠ 9 + n) : sm_mx (sm_ck a fr br n) (31 + n) = sm_mx a br := by
  unfold sm_ck; rw [sm_cpt, sm_cpo h]
theorem sm_ck_o {a : Nat → Int32} {fr br n r : Nat} (h1 : r ≠ 9 + n) (h2 : r ≠ 31 + n) : sm_mx (sm_ck a fr br n) r = sm_mx a r := by
  unfold sm_ck; rw [sm_cpo h2, sm_cpo h1]
theorem sm_d9_9 {a dx : Nat → Int32} {fr n : Nat} {g : Int32} (l : Nat) : sm_mx (sm_d9 a dx fr n g) (9 + n) l = sm_tr dx n g (sm_mx a fr l) := by
  unfold sm_d9; rw [sm_mpt, sm_cpt]
theorem sm_d9_o {a dx : Nat → Int32} {fr n r : Nat} {g : Int32} (h : r ≠ 9 + n) : sm_mx (sm_d9 a dx fr n g) r = sm_mx a r := by
  unfold sm_d9; rw [sm_mpo (Nat.le_refl _) h, sm_cpo h]
theorem sm_d9_tr {dx : Nat → Int32} {fr n : Nat} {g : Int32} (hg : g = -1 ∨ ∃ m, m < n ∧ g = nI m) (hn : n < 16) (t : Int32) : sm_tr (sm_d9 dx dx fr n g) n g t = sm_tr dx n g t :=
  sm_tr_congr (hg.imp id (fun ⟨m, a, b⟩ => ⟨m, by omega, b, sm_d9_o (by omega)⟩)) t
theorem sm_dd_9 {a dx : Nat → Int32} {fr br n : Nat} {g : Int32} (l : Nat) : sm_mx (sm_dd a dx fr br n g) (9 + n) l = sm_tr dx n g (sm_mx a fr l) := by
  unfold sm_dd; rw [sm_mpo (Nat.le_refl _) (by omega), sm_cpo (by omega), sm_d9_9]
theorem sm_dd_31 {a dx : Nat → Int32} {fr br n : Nat} {g : Int32} (hg : g = -1 ∨ ∃ m, m < n ∧ g = nI m) (hn : n < 16) (h : br ≠ 9 + n) (l : Nat) : sm_mx (sm_dd a dx fr br n g) (31 + n) l = sm_tr dx n g (sm_mx a br l) := by
  unfold sm_dd; rw [sm_mpt, sm_cpt, sm_d9_o h, sm_d9_tr hg hn]
theorem sm_dd_o {a dx : Nat → Int32} {fr br n r : Nat} {g : Int32} (h1 : r ≠ 9 + n) (h2 : r ≠ 31 + n) : sm_mx (sm_dd a dx fr br n g) r = sm_mx a r := by
  unfold sm_dd; rw [sm_mpo (Nat.le_refl _) h2, sm_cpo h2, sm_d9_o h1]
section sm_X
variable {xa xb xml xsl xfl xrm xsc xfc xmc xus dk dp df pl pd pc pf cd xfr xht : Int32} {kx dx cx fx tx sp fp ff ft rt ag wk nk no nl cs cn cb fM fA fI fB fP fF vx bx : Nat → Int32}
theorem sm_xadd {post : Int32 → SX → Prop} {mc fr br a0 c0 : Nat} {g : Int32} {cost : Nat → Nat} (hm : mc < 16) (hfr : fr < 53) (hbr : br < 53) (hfn : fr ≠ 9 + mc) (hbn : br ≠ 31 + mc) (hg : g = -1 ∨ ∃ m, m < mc ∧ g = nI m) (hc : c0 ≤ 192) (hac : a0 ≤ c0)
    (w0 : ∀ l, l < 8 → wk (8 * mc + l) = 0)
    (hN : ∀ i, a0 ≤ i → i < c0 → ∃ L, L < 8 ∧ nl i = nI L ∧ (nk i = 5 → ∃ W m r, W < 2 ^ 31 ∧ no i = nI W ∧ ((W / 8 = 0 → m = mc) ∧ (W / 8 = 1 → upd ag mc g mc = nI m) ∧ (2 ≤ W / 8 → m = W / 8 - 2)) ∧ m < 16 ∧ r < 16 ∧ upd rt mc (nI mc) m = nI r ∧ (W / 8 = 0 → r = mc) ∧ (W / 8 ≠ 0 → r ≠ mc ∧ wk (8 * r + W % 8) = nI (sm_cap (cost (8 * r + W % 8))))))
    (h : ∀ w : Nat → Int32, (∀ j, ¬ j / 8 = mc → w j = wk j) → (∀ l, l < 8 → w (8 * mc + l) = nI (sm_cap (sm_ct nk no nl (upd rt mc (nI mc)) (upd ag mc g) cost mc a0 (c0 - a0) l))) → post (nI mc) (xa, xb, xml, xsl, xfl, xrm, xsc, xfc, nI (mc + 1), xus, dk, dp, df, pl, pd, pc, pf, cd, xfr, xht, sm_ck kx fr br mc, sm_dd dx dx fr br mc g, sm_dd cx dx fr br mc g, sm_ck fx fr br mc, sm_ck tx fr br mc, sp, fp, ff, ft, upd rt mc (nI mc), upd ag mc g, w, nk, no, nl, cs, cn, cb, fM, fA, fI, fB, fP, fF, vx, bx)) : wpX_addBodied post (xa, xb, xml, xsl, xfl, xrm, xsc, xfc, nI mc, xus, dk, dp, df, pl, pd, pc, pf, cd, xfr, xht, kx, dx, cx, fx, tx, sp, fp, ff, ft, rt, ag, wk, nk, no, nl, cs, cn, cb, fM, fA, fI, fB, fP, fF, vx, bx) (nI fr) (nI br) g (nI a0) (nI c0) := by
  have im : vp_in (nI mc) 16 := vp_in_nI hm (by omega)
  have cm : (nI mc).toNatClampNeg = mc := nI_clamp (by omega)
  unfold wpX_addBodied wpX_moduleSlot wpX_innerSlot
  dsimp only
  rw [sm_l9, sm_l31]
  refine sm_xtf hfr (by omega) hfn (hg.imp id (fun ⟨m, a, b⟩ => ⟨m, by omega, b, by omega⟩)) ?_
  refine sm_xtf hbr (by omega) hbn (hg.imp id (fun ⟨m, a, b⟩ => ⟨m, by omega, b, by omega⟩)) ?_
  refine ⟨im, nm_r (e' := upd rt mc (nI mc)) (by rw [cm]) ⟨im, nm_r (e' := upd ag mc g) (by rw [cm]) ?_⟩⟩
  exact sm_xmeas hm hc hac w0 hN (fun w h1 h2 => nm_r (nI_1 mc) (h w h1 h2))
theorem sm_xaf {post : Int32 → SX → Prop} {fc fr : Nat} (hf : fc < 6) (hfr : fr < 53) (hfn : fr ≠ 25 + fc)
    (h : post (nI fc) (xa, xb, xml, xsl, xfl, xrm, xsc, nI (fc + 1), xmc, xus, dk, dp, df, pl, pd, pc, pf, cd, xfr, xht, sm_cp (sm_cp kx fr (25 + fc) 8) 0 (47 + fc) 8, sm_cp (sm_cp dx fr (25 + fc) 8) 0 (47 + fc) 8, sm_cp (sm_cp cx fr (25 + fc) 8) 0 (47 + fc) 8, sm_cp (sm_cp fx fr (25 + fc) 8) 0 (47 + fc) 8, sm_cp (sm_cp tx fr (25 + fc) 8) 0 (47 + fc) 8, sp, upd fp fc dp, upd ff fc df, upd ft fc xus, rt, ag, wk, nk, no, nl, cs, cn, cb, fM, fA, fI, fB, fP, fF, vx, bx)) : wpX_addFunctor post (xa, xb, xml, xsl, xfl, xrm, xsc, nI fc, xmc, xus, dk, dp, df, pl, pd, pc, pf, cd, xfr, xht, kx, dx, cx, fx, tx, sp, fp, ff, ft, rt, ag, wk, nk, no, nl, cs, cn, cb, fM, fA, fI, fB, fP, fF, vx, bx) (nI fr) := by
  have im : vp_in (nI fc) 6 := vp_in_nI hf (by omega)
  have cm : (nI fc).toNatClampNeg = fc := nI_clamp (by omega)
  unfold wpX_addFunctor wpX_functorSlot wpX_bodySlot
  dsimp only
  rw [sm_l25, sm_l47]
  refine sm_xcopy hfr (by omega) hfn ?_
  refine sm_xcopy (s := 0) (by omega) (by omega) (by omega) ?_
  exact ⟨im, nm_r (e' := upd fp fc dp) (by rw [cm]) ⟨im, nm_r (e' := upd ff fc df) (by rw [cm]) ⟨im, nm_r (e' := upd ft fc xus) (by rw [cm]) (nm_r (nI_1 fc) h)⟩⟩⟩
theorem sm_xcs {post : Int32 → SX → Prop} {sc : Nat} (hs : sc < 8) (h : post (nI sc) (xa, xb, xml, xsl, xfl, xrm, nI (sc + 1), xfc, xmc, xus, -1, -1, df, pl, pd, pc, pf, cd, xfr, xht, sm_cp kx 0 (1 + sc) 8, sm_cp dx 0 (1 + sc) 8, sm_cp cx 0 (1 + sc) 8, sm_cp fx 0 (1 + sc) 8, sm_cp tx 0 (1 + sc) 8, upd sp sc dp, fp, ff, ft, rt, ag, wk, nk, no, nl, cs, cn, cb, fM, fA, fI, fB, fP, fF, vx, bx)) (hl : nI sc < xsl) : wpX_closeSignature post (xa, xb, xml, xsl, xfl, xrm, nI sc, xfc, xmc, xus, dk, dp, df, pl, pd, pc, pf, cd, xfr, xht, kx, dx, cx, fx, tx, sp, fp, ff, ft, rt, ag, wk, nk, no, nl, cs, cn, cb, fM, fA, fI, fB, fP, fF, vx, bx) := by
  have im : vp_in (nI sc) 8 := vp_in_nI hs (by omega)
  have cm : (nI sc).toNatClampNeg = sc := nI_clamp (by omega)
  refine br_t hl ?_
  unfold wpX_signatureSlot
  dsimp only
  rw [sm_l1]
  refine sm_xcopy (s := 0) (by omega) (by omega) (by omega) ?_
  exact ⟨im, nm_r (e' := upd sp sc dp) (by rw [cm]) (nm_r (nI_1 sc) (sm_xfd h))⟩
end sm_X
section sm_Y
variable {yrm ynb yus ydk ypl ypd ypc ydp yfr yht yst yfa : Int32} {md mo ky d1 d2 po bo fo ynk yno nbd ynl ycn ycb ck rA rN rD rC rO rX vY bY : Nat → Int32}
theorem sm_ycl0 {q : Int32 → SY → Prop} {sc nb : Nat} (hs : sc < 8) (e : md 0 = nI sc) (h : q (nI sc) (yrm, nI nb, yus, -1, ypl, ypd, ypc, ydp, yfr, yht, yst, yfa, upd md 0 (nI (sc + 1)), mo, sm_cp ky 0 (1 + sc) 8, sm_cm d1 (sm_sb d1 (upd fo (1 + sc) (-1)) (1 + sc)) 0 (1 + sc) 8, sm_cm d2 (sm_sb d1 (upd fo (1 + sc) (-1)) (1 + sc)) 0 (1 + sc) 8, upd po (1 + sc) (po 0), upd bo (1 + sc) (nI nb), upd fo (1 + sc) (-1), ynk, yno, nbd, ynl, ycn, ycb, ck, rA, rN, rD, rC, rO, rX, vY, bY)) : wY_close_123 q 0 0 yrm (nI nb) yus 0 ypl ypd ypc ydp yfr yht yst yfa md mo ky d1 d2 po bo fo ynk yno nbd ynl ycn ycb ck rA rN rD rC rO rX vY bY := by
  refine br_t rfl ?_
  refine sm_ymk0 (s := 0) hs (by omega) (by omega) e (Or.inl rfl) (br_t rfl h)
theorem sm_ycl1 {q : Int32 → SY → Prop} {mc fr nb : Nat} (hm : mc < 16) (hfr : fr < 53) (hfn : fr ≠ 9 + mc) (hnb : nb < 22) (e : md 1 = nI mc)
    (h : q (nI mc) (yrm, nI (nb + 1), yus, -1, ypl, ypd, ypc, ydp, yfr, yht, yst, yfa, upd md 1 (nI (mc + 1)), mo, sm_cp (sm_cp ky fr (9 + mc) 8) 0 (31 + nb) 8, sm_cm (sm_cm d1 (sm_sb d1 (upd fo (9 + mc) (-1)) (9 + mc)) fr (9 + mc) 8) (sm_sb (sm_cm d1 (sm_sb d1 (upd fo (9 + mc) (-1)) (9 + mc)) fr (9 + mc) 8) (upd fo (9 + mc) (-1)) (31 + nb)) 0 (31 + nb) 8, sm_cm (sm_cm d2 (sm_sb d1 (upd fo (9 + mc) (-1)) (9 + mc)) fr (9 + mc) 8) (sm_sb (sm_cm d1 (sm_sb d1 (upd fo (9 + mc) (-1)) (9 + mc)) fr (9 + mc) 8) (upd fo (9 + mc) (-1)) (31 + nb)) 0 (31 + nb) 8, upd po (9 + mc) (po 0), upd bo (9 + mc) (nI nb), upd fo (9 + mc) (-1), ynk, yno, nbd, ynl, ycn, ycb, ck, rA, rN, rD, rC, rO, rX, vY, bY)) : wY_close_123 q (nI fr) 0 yrm (nI nb) yus 1 ypl ypd ypc ydp yfr yht yst yfa md mo ky d1 d2 po bo fo ynk yno nbd ynl ycn ycb ck rA rN rD rC rO rX vY bY := by
  refine br_t rfl ?_
  refine sm_ymk1 hm hfr hfn e (Or.inl rfl) (br_f (by decide) ?_)
  rw [sm_l31]
  exact sm_ycopy (s := 0) (by omega) (by omega) (by omega) (fun a b => absurd b (by omega)) (nm_r (nI_1 nb) h)
theorem sm_ycl2 {q : Int32 → SY → Prop} {fc fr nb : Nat} (hm : fc < 6) (hfr : fr < 53) (hfn : fr ≠ 25 + fc) (hnb : nb < 22) (e : md 2 = nI fc)
    (h : q (nI fc) (yrm, nI (nb + 1), yus, -1, ypl, ypd, ypc, ydp, yfr, yht, yst, yfa, upd md 2 (nI (fc + 1)), mo, sm_cp (sm_cp ky fr (25 + fc) 8) 0 (31 + nb) 8, sm_cm (sm_cm d1 (sm_sb d1 (upd fo (25 + fc) (-1)) (25 + fc)) fr (25 + fc) 8) (sm_sb (sm_cm d1 (sm_sb d1 (upd fo (25 + fc) (-1)) (25 + fc)) fr (25 + fc) 8) (upd fo (25 + fc) (-1)) (31 + nb)) 0 (31 + nb) 8, sm_cm (sm_cm d2 (sm_sb d1 (upd fo (25 + fc) (-1)) (25 + fc)) fr (25 + fc) 8) (sm_sb (sm_cm d1 (sm_sb d1 (upd fo (25 + fc) (-1)) (25 + fc)) fr (25 + fc) 8) (upd fo (25 + fc) (-1)) (31 + nb)) 0 (31 + nb) 8, upd po (25 + fc) (po 0), upd bo (25 + fc) (nI nb), upd fo (25 + fc) (-1), ynk, yno, nbd, ynl, ycn, ycb, ck, rA, rN, rD, rC, rO, rX, vY, bY)) : wY_close_123 q (nI fr) 0 yrm (nI nb) yus 2 ypl ypd ypc ydp yfr yht yst yfa md mo ky d1 d2 po bo fo ynk yno nbd ynl ycn ycb ck rA rN rD rC rO rX vY bY := by
  refine br_t rfl ?_
  refine sm_ymk2 hm hfr hfn e (Or.inl rfl) (br_f (by decide) ?_)
  rw [sm_l31]
  exact sm_ycopy (s := 0) (by omega) (by omega) (by omega) (fun a b => absurd b (by omega)) (nm_r (nI_1 nb) h)
end sm_Y
end
section
section sm_R
variable {ML SL FL RM sc fc mc us nb : Nat} {xa xb dk dp df pl pd pc pf cd xfr xht ydp yfr yht yst yfa : Int32} {kx dx cx fx tx sp fp ff ft rt ag wk nk no nl cs cn cb fM fA fI fB fP fF vx bx md mo ky d1 d2 po bo fo nbd ck rA rN rD rC rO rX vY bY : Nat → Int32}
variable {uc D : Nat} {cost rk : Nat → Nat}
theorem sm_cl0_R {k : Nat} {fy : Int32} (hN : sm_Num ML SL FL RM sc fc mc nb md mo) (hC : sm_CL sc fc mc uc nb cost rk kx dx cx fx tx sp fp ff ft rt ag wk nk no nl ky d1 d2 po bo fo nbd) (hu : uc ≤ us ∧ us ≤ RM) (h : sm_D1 kx dx cx fx tx sp nk no nl ky d1 d2 po nbd cs sc mc uc us nb D dk dp df pl pd pc pf cd) (hD0 : D = 0) (hlt : sc < SL) :
    i_Rel k (xa, xb, nI ML, nI SL, nI FL, nI RM, nI (sc + 1), nI fc, nI mc, nI us, -1, -1, df, pl, pd, pc, pf, cd, xfr, xht, sm_cp kx 0 (1 + sc) 8, sm_cp dx 0 (1 + sc) 8, sm_cp cx 0 (1 + sc) 8, sm_cp fx 0 (1 + sc) 8, sm_cp tx 0 (1 + sc) 8, upd sp sc dp, fp, ff, ft, rt, ag, wk, nk, no, nl, cs, cn, cb, fM, fA, fI, fB, fP, fF, vx, bx)
      (nI RM, nI nb, nI us, -1, pl, pd, pc, ydp, yfr, yht, yst, yfa, upd md 0 (nI (sc + 1)), mo, sm_cp ky 0 (1 + sc) 8, sm_cm d1 (sm_sb d1 (upd fo (1 + sc) (-1)) (1 + sc)) 0 (1 + sc) 8, sm_cm d2 (sm_sb d1 (upd fo (1 + sc) (-1)) (1 + sc)) 0 (1 + sc) 8, upd po (1 + sc) (po 0), upd bo (1 + sc) fy, upd fo (1 + sc) (-1), nk, no, nbd, nl, cn, cb, ck, rA, rN, rD, rC, rO, rX, vY, bY) := by
  obtain ⟨⟨n1, n2, n3, n4, n5, n6, n7⟩, ⟨hsc, hmc, hfc, hnb⟩, ⟨m0, m1, m2⟩, hmo⟩ := hN
  obtain ⟨⟨e1, e2, e3, e4⟩, e5, e6, e7, L0, T0, z0, z1⟩ := h
  obtain ⟨eu, epl, ecd⟩ := z0 hD0
  have lz : ∀ r, sm_lz sc fc mc r → r ≠ 1 + sc := by intro r hr; unfold sm_lz at hr; omega
  have lx : ∀ r, sm_lx sc fc mc r → r ≠ 1 + sc := by intro r hr; unfold sm_lx at hr; omega
  have ly : ∀ r, sm_ly sc fc mc nb r → r ≠ 1 + sc := by intro r hr; unfold sm_ly at hr; omega
  have E : sm_Eq sc fc mc uc nb cost rk cost rk kx dx cx fx tx sp fp ff ft rt ag wk nk no nl ky d1 d2 po bo fo nbd (sm_cp kx 0 (1 + sc) 8) (sm_cp dx 0 (1 + sc) 8) (sm_cp cx 0 (1 + sc) 8) (sm_cp fx 0 (1 + sc) 8) (sm_cp tx 0 (1 + sc) 8) (upd sp sc dp) fp ff ft rt ag wk nk no nl (sm_cp ky 0 (1 + sc) 8) (sm_cm d1 (sm_sb d1 (upd fo (1 + sc) (-1)) (1 + sc)) 0 (1 + sc) 8) (sm_cm d2 (sm_sb d1 (upd fo (1 + sc) (-1)) (1 + sc)) 0 (1 + sc) 8) (upd po (1 + sc) (po 0)) (upd bo (1 + sc) fy) (upd fo (1 + sc) (-1)) nbd :=
    ⟨fun r hr => ⟨sm_cpo (lx r hr), sm_cpo (lx r hr), sm_cpo (lx r hr), sm_cpo (lx r hr), sm_cpo (lx r hr)⟩, fun r hr => ⟨sm_cpo (ly r hr), sm_cmo (Nat.le_refl _) (ly r hr), sm_cmo (Nat.le_refl _) (ly r hr)⟩, fun s hs => pk_un (by omega), fun _ _ => ⟨rfl, rfl, rfl⟩, fun _ _ => ⟨rfl, rfl⟩, fun _ _ => ⟨rfl, rfl, rfl⟩, fun _ _ => ⟨rfl, rfl, rfl, rfl⟩, fun r hr => ⟨pk_un (lz r hr), pk_un (lz r hr), pk_un (lz r hr)⟩⟩
  obtain ⟨a, b, c⟩ := sm_CL3 (sc' := sc + 1) (mc' := mc) E (by omega) (by omega) (by omega) (by omega) (Nat.le_refl uc) (Nat.le_refl nb) (Nat.le_succ _) (Nat.le_refl _) (fun k a b => absurd a (by omega)) hC
  refine sm_in (uc := uc) (cost := cost) (rk := rk) ⟨⟨n1, n2, n3, n4, n5, n6, n7⟩, ⟨by omega, hmc, hfc, hnb⟩, ⟨pk_us, (pk_un (by decide)).trans m1, (pk_un (by decide)).trans m2⟩, hmo⟩ ⟨hC.1, hC.2.1, fun s hs => ?_, b, c⟩ ⟨hu, fun k a b => absurd a (by omega), Or.inl ⟨rfl, rfl, epl, ecd, eu.symm⟩⟩
  by_cases q : s = sc
  · subst q
    have sb : ∀ l, sm_sb d1 (upd fo (1 + s) (-1)) (1 + s) l = l := fun l => sm_sb_lo (by omega)
    refine ⟨fun l => ?_, ?_, ?_, ?_⟩
    · rw [sm_cpt, sm_cpt, sm_cpt, sm_cpt, sm_cmt, sm_cmt, sb, sb]; exact L0 l
    · rw [pk_us, pk_us]; exact e4
    · rw [pk_us]
      rcases e5 with e5 | ⟨p, hp, ep, eq⟩
      · exact Or.inl e5
      · exact Or.inr ⟨p, hp, ep, by rw [pk_un (by omega)]; exact eq⟩
    · rw [sm_cpt, sm_cpt, sm_cpt, pk_us]
      refine sm_Tr_mono (fun j _ hj => hj.2) (fun j _ ⟨p, hp, ep, hj⟩ => ⟨p, hp, ep, ?_⟩) T0
      rw [sm_cpo (by omega)]; exact hj
  · exact a s (by omega)
theorem sm_cl2_R {k fr : Nat} (hN : sm_Num ML SL FL RM sc fc mc nb md mo) (hC : sm_CL sc fc mc uc nb cost rk kx dx cx fx tx sp fp ff ft rt ag wk nk no nl ky d1 d2 po bo fo nbd) (hu : uc ≤ us ∧ us ≤ RM) (hG : ∀ k, uc ≤ k → k < us → nbd k = nI nb) (h : sm_D1 kx dx cx fx tx sp nk no nl ky d1 d2 po nbd cs sc mc uc us nb D dk dp df pl pd pc pf cd) (hD2 : D = 2) (hpl : pl < 0) (hlt : fc < FL)
    (hfr : fr = 0 ∨ ∃ s, s < sc ∧ fr = 1 + s ∧ (sp s = -1 ∨ sp s = dp) ∧ ∀ l, sm_mx kx (1 + s) l ≠ 0 → sm_mx kx 0 l = sm_mx kx (1 + s) l) :
    i_Rel k (xa, xb, nI ML, nI SL, nI FL, nI RM, nI sc, nI (fc + 1), nI mc, nI us, -1, -1, df, pl, pd, pc, pf, cd, xfr, xht, sm_cp (sm_cp kx fr (25 + fc) 8) 0 (47 + fc) 8, sm_cp (sm_cp dx fr (25 + fc) 8) 0 (47 + fc) 8, sm_cp (sm_cp cx fr (25 + fc) 8) 0 (47 + fc) 8, sm_cp (sm_cp fx fr (25 + fc) 8) 0 (47 + fc) 8, sm_cp (sm_cp tx fr (25 + fc) 8) 0 (47 + fc) 8, sp, upd fp fc dp, upd ff fc df, upd ft fc (nI us), rt, ag, wk, nk, no, nl, cs, cn, cb, fM, fA, fI, fB, fP, fF, vx, bx)
      (nI RM, nI (nb + 1), nI us, -1, pl, pd, pc, ydp, yfr, yht, yst, yfa, upd md 2 (nI (fc + 1)), mo, sm_cp (sm_cp ky fr (25 + fc) 8) 0 (31 + nb) 8, sm_cm (sm_cm d1 (sm_sb d1 (upd fo (25 + fc) (-1)) (25 + fc)) fr (25 + fc) 8) (sm_sb (sm_cm d1 (sm_sb d1 (upd fo (25 + fc) (-1)) (25 + fc)) fr (25 + fc) 8) (upd fo (25 + fc) (-1)) (31 + nb)) 0 (31 + nb) 8, sm_cm (sm_cm d2 (sm_sb d1 (upd fo (25 + fc) (-1)) (25 + fc)) fr (25 + fc) 8) (sm_sb (sm_cm d1 (sm_sb d1 (upd fo (25 + fc) (-1)) (25 + fc)) fr (25 + fc) 8) (upd fo (25 + fc) (-1)) (31 + nb)) 0 (31 + nb) 8, upd po (25 + fc) (po 0), upd bo (25 + fc) (nI nb), upd fo (25 + fc) (-1), nk, no, nbd, nl, cn, cb, ck, rA, rN, rD, rC, rO, rX, vY, bY) := by
  obtain ⟨⟨n1, n2, n3, n4, n5, n6, n7⟩, ⟨hsc, hmc, hfc, hnb⟩, ⟨m0, m1, m2⟩, hmo⟩ := hN
  obtain ⟨⟨e1, e2, e3, e4⟩, e5, e6, e7, L0, T0, z0, z1⟩ := h
  have hz : D ≠ 0 := by omega
  obtain ⟨dr, ud, g1, g2, g3, g4, g5, ⟨epl, ecd, eud⟩ | ⟨L', hL', e, _⟩⟩ := z1 hz
  · subst eud
    obtain ⟨p, hp, ep, hsp⟩ : ∃ p, p < sc ∧ dp = nI p ∧ sp p = -1 := e5.resolve_left (e7 hD2)
    have lz : ∀ r, sm_lz sc fc mc r → r ≠ 25 + fc := by intro r hr; unfold sm_lz at hr; omega
    have lx : ∀ r, sm_lx sc fc mc r → r ≠ 25 + fc ∧ r ≠ 47 + fc := by intro r hr; unfold sm_lx at hr; omega
    have ly : ∀ r, sm_ly sc fc mc nb r → r ≠ 25 + fc ∧ r ≠ 31 + nb := by intro r hr; unfold sm_ly at hr; omega
    have xo : ∀ (A : Nat → Int32) r, r ≠ 25 + fc ∧ r ≠ 47 + fc → sm_mx (sm_cp (sm_cp A fr (25 + fc) 8) 0 (47 + fc) 8) r = sm_mx A r := fun A r hr => by rw [sm_cpo hr.2, sm_cpo hr.1]
    have xf : ∀ (A : Nat → Int32), sm_mx (sm_cp (sm_cp A fr (25 + fc) 8) 0 (47 + fc) 8) (25 + fc) = sm_mx A fr := fun A => by rw [sm_cpo (by omega), sm_cpt]
    have xb : ∀ (A : Nat → Int32), sm_mx (sm_cp (sm_cp A fr (25 + fc) 8) 0 (47 + fc) 8) (47 + fc) = sm_mx A 0 := fun A => by rw [sm_cpt, sm_cpo (by omega)]
    have yo : ∀ (A : Nat → Int32) (f1 f2 : Int32 → Int32) r, r ≠ 25 + fc ∧ r ≠ 31 + nb → sm_mx (sm_cm (sm_cm A f1 fr (25 + fc) 8) f2 0 (31 + nb) 8) r = sm_mx A r := fun A f1 f2 r hr => by rw [sm_cmo (Nat.le_refl _) hr.2, sm_cmo (Nat.le_refl _) hr.1]
    have yf : ∀ (A : Nat → Int32) (f1 f2 : Int32 → Int32) l, sm_mx (sm_cm (sm_cm A f1 fr (25 + fc) 8) f2 0 (31 + nb) 8) (25 + fc) l = f1 (sm_mx A fr l) := fun A f1 f2 l => by rw [sm_cmo (Nat.le_refl _) (by omega), sm_cmt]
    have yb : ∀ (A : Nat → Int32) (f1 f2 : Int32 → Int32) l, sm_mx (sm_cm (sm_cm A f1 fr (25 + fc) 8) f2 0 (31 + nb) 8) (31 + nb) l = f2 (sm_mx A 0 l) := fun A f1 f2 l => by rw [sm_cmt, sm_cmo (Nat.le_refl _) (by omega)]
    have E : sm_Eq sc fc mc uc nb cost rk cost rk kx dx cx fx tx sp fp ff ft rt ag wk nk no nl ky d1 d2 po bo fo nbd (sm_cp (sm_cp kx fr (25 + fc) 8) 0 (47 + fc) 8) (sm_cp (sm_cp dx fr (25 + fc) 8) 0 (47 + fc) 8) (sm_cp (sm_cp cx fr (25 + fc) 8) 0 (47 + fc) 8) (sm_cp (sm_cp fx fr (25 + fc) 8) 0 (47 + fc) 8) (sm_cp (sm_cp tx fr (25 + fc) 8) 0 (47 + fc) 8) sp (upd fp fc dp) (upd ff fc df) (upd ft fc (nI ud)) rt ag wk nk no nl (sm_cp (sm_cp ky fr (25 + fc) 8) 0 (31 + nb) 8) (sm_cm (sm_cm d1 (sm_sb d1 (upd fo (25 + fc) (-1)) (25 + fc)) fr (25 + fc) 8) (sm_sb (sm_cm d1 (sm_sb d1 (upd fo (25 + fc) (-1)) (25 + fc)) fr (25 + fc) 8) (upd fo (25 + fc) (-1)) (31 + nb)) 0 (31 + nb) 8) (sm_cm (sm_cm d2 (sm_sb d1 (upd fo (25 + fc) (-1)) (25 + fc)) fr (25 + fc) 8) (sm_sb (sm_cm d1 (sm_sb d1 (upd fo (25 + fc) (-1)) (25 + fc)) fr (25 + fc) 8) (upd fo (25 + fc) (-1)) (31 + nb)) 0 (31 + nb) 8) (upd po (25 + fc) (po 0)) (upd bo (25 + fc) (nI nb)) (upd fo (25 + fc) (-1)) nbd :=
      ⟨fun r hr => ⟨xo _ _ (lx r hr), xo _ _ (lx r hr), xo _ _ (lx r hr), xo _ _ (lx r hr), xo _ _ (lx r hr)⟩, fun r hr => ⟨by rw [sm_cpo (ly r hr).2, sm_cpo (ly r hr).1], yo _ _ _ _ (ly r hr), yo _ _ _ _ (ly r hr)⟩, fun _ _ => rfl, fun f hf => ⟨pk_un (by omega), pk_un (by omega), pk_un (by omega)⟩, fun _ _ => ⟨rfl, rfl⟩, fun _ _ => ⟨rfl, rfl, rfl⟩, fun _ _ => ⟨rfl, rfl, rfl, rfl⟩, fun r hr => ⟨pk_un (lz r hr), pk_un (lz r hr), pk_un (lz r hr)⟩⟩
    have hlow : ∀ k, uc ≤ k → k < ud → ∀ b, b < nb → ¬ nbd k = nI b := by
      intro k k1 k2 b hb e
      rw [hG k k1 k2] at e
      have := sm_inj e (by omega) (by omega)
      omega
    obtain ⟨a, b, c⟩ := sm_CL3 (sc' := sc) (mc' := mc) E (by omega) (by omega) (by omega) (by omega) g1 (Nat.le_succ nb) (Nat.le_refl _) (Nat.le_refl _) hlow hC
    have hnod : ∀ i, i < ud → (nbd i = nI nb ↔ (uc ≤ i ∧ i < ud)) := by
      intro i hi
      refine ⟨fun z => ⟨Nat.le_of_not_lt fun w => ?_, hi⟩, fun z => hG i z.1 z.2⟩
      obtain ⟨b', hb', eb'⟩ := hC.2.1 i w
      rw [eb'] at z
      have := sm_inj z (by omega) (by omega)
      omega
    refine sm_in (uc := ud) (cost := cost) (rk := rk) ⟨⟨n1, n2, n3, n4, n5, n6, n7⟩, ⟨hsc, hmc, by omega, by omega⟩, ⟨(pk_un (by decide)).trans m0, (pk_un (by decide)).trans m1, pk_us⟩, hmo⟩ ⟨hC.1, fun k hk => ?_, a, b, fun f hf => ?_⟩ ⟨⟨Nat.le_refl _, hu.2⟩, fun k a b => absurd a (by omega), Or.inl ⟨rfl, rfl, epl, ecd, rfl⟩⟩
    · by_cases q : k < uc
      · obtain ⟨b', hb', eb'⟩ := hC.2.1 k q
        exact ⟨b', by omega, eb'⟩
      · exact ⟨nb, by omega, hG k (by omega) hk⟩
    · by_cases q : f = fc
      · subst q
        have sb1 : ∀ l, sm_sb d1 (upd fo (25 + f) (-1)) (25 + f) l = l := fun l => sm_sb_hi (by omega)
        have sb2 : ∀ A l, sm_sb A (upd fo (25 + f) (-1)) (31 + nb) l = l := fun A l => sm_sb_hi (by omega)
        have ys : sm_mx (sm_cp (sm_cp ky fr (25 + f) 8) 0 (31 + nb) 8) (25 + f) = sm_mx ky fr := by rw [sm_cpo (by omega), sm_cpt]
        have p1 : 1 + p ≠ 25 + f ∧ 1 + p ≠ 47 + f := by omega
        have dpN : ∀ j, sm_DN kx sc dp j → sm_NZ kx p j := by
          rintro j ⟨p', hp', ep', hj⟩
          have := sm_inj (ep.symm.trans ep') (by omega) (by omega)
          subst this
          exact hj
        have Lf : sm_LR kx dx cx ky d1 d2 fr ∧ sm_Tr sm_T1 (sm_NZ kx p) (sm_mx kx fr) (sm_mx dx fr) (sm_mx cx fr) ∧ ∀ l, sm_mx kx fr l = 2 → sm_mx kx 0 l = 2 := by
          rcases hfr with rfl | ⟨s, hs, rfl, hss, hsm⟩
          · exact ⟨L0, sm_Tr_mono (fun _ _ _ => trivial) (fun j _ hj => dpN j hj) T0, fun l z => z⟩
          · obtain ⟨q1, q2, q3, q4⟩ := hC.2.2.1 s hs
            refine ⟨q1, sm_Tr_mono (fun _ _ _ => trivial) (fun j _ ⟨p', hp', ep', hj⟩ => ?_) q4, fun l z => by rw [hsm l (by rw [z]; decide)]; exact z⟩
            rcases hss with w | w
            · rw [w] at ep'; exact absurd ep'.symm (sm_ne1 (by omega))
            · rw [w, ep] at ep'
              have := sm_inj ep' (by omega) (by omega)
              subst this
              exact hj
        have O2e : ∀ j, sm_D2 kx sc dp j → sm_O2 (sm_cp (sm_cp kx fr (25 + f) 8) 0 (47 + f) 8) p j := by
          rintro j ⟨p', hp', ep', hj⟩
          have := sm_inj (ep.symm.trans ep') (by omega) (by omega)
          subst this
          unfold sm_O2
          rw [xo _ _ p1]; exact hj
        have NZe : ∀ j, j < 8 → sm_NZ kx p j → sm_NZ (sm_cp (sm_cp kx fr (25 + f) 8) 0 (47 + f) 8) p j := fun j _ hj => by unfold sm_NZ at hj ⊢; rw [xo _ _ p1]; exact hj
        refine ⟨fun l => ?_, fun l hl => ?_, p, nb, uc, ud, dr, ⟨hp, by rw [pk_us]; exact ep, by rw [pk_us, e4]; exact ep⟩, ⟨by omega, pk_us⟩, ⟨by rw [pk_us]; exact e3, pk_us, g1, Nat.le_refl _⟩, hnod, fun i i1 i2 => ?_, fun l hl hk => ?_, ?_, ?_, fun l hl => ?_⟩
        · rw [xf, xf, xf, yf, yf, sb1, sb1, ys]; exact Lf.1 l
        · rw [xf] at hl; rw [xb]; exact Lf.2.2 l hl
        · rw [xb]; exact g5 i i1 i2
        · rw [xb] at hk
          have := g3 l hl hk
          have := sm_cnt_le (sm_mx kx 0)
          omega
        · rw [xb, xb, xb]
          refine sm_Bo_mono (Nat.le_refl _) (fun _ _ => ⟨rfl, rfl, rfl, rfl⟩) (fun l _ _ i i1 i2 => absurd i1 (by omega)) O2e (fun m j hm hj => ?_) (Nat.le_refl _) (fun _ _ _ _ _ _ z => z) (fun _ _ _ _ _ _ => trivial) g4
          unfold sm_P2 at hj ⊢
          rw [xo _ _ (by omega)]; exact hj
        · rw [xf, xf, xf]; exact sm_Tr_mono (fun _ _ z => z) NZe Lf.2.1
        · rw [xb] at hl
          rw [yb, yb, sb2, sb2, xb, xb]
          obtain ⟨q1, q2⟩ := (sm_LR_12 L0 l).2 hl
          obtain ⟨t1, t2⟩ := T0 l (by rw [hl]; decide)
          exact ⟨q1, q2, sm_Ts_mono (fun _ _ _ => trivial) (fun j hj z => NZe j hj (dpN j z)) t1, sm_Ts_mono (fun _ _ _ => trivial) (fun j hj z => NZe j hj (dpN j z)) t2⟩
      · exact c f (by omega)
  · rw [e] at hpl
    exact absurd hpl (nI_pos (by omega))
end sm_R
end
section
theorem sm_cs_o {c : Nat → Nat} {n i : Nat} {f : Nat → Nat} (h : i < 8 * n) : sm_cs c n f i = c i := by
  unfold sm_cs; rw [if_neg (by omega)]
theorem sm_cs_n {c : Nat → Nat} {n l : Nat} {f : Nat → Nat} (h : l < 8) : sm_cs c n f (8 * n + l) = f l := by
  unfold sm_cs; rw [if_pos (by omega), show (8 * n + l) % 8 = l by omega]
section sm_R
variable {ML SL FL RM sc fc mc us nb : Nat} {xa xb dk dp df pl pd pc pf cd xfr xht ydp yfr yht yst yfa : Int32} {kx dx cx fx tx sp fp ff ft rt ag wk nk no nl cs cn cb fM fA fI fB fP fF vx bx md mo ky d1 d2 po bo fo nbd ck rA rN rD rC rO rX vY bY : Nat → Int32}
variable {uc D : Nat} {cost rk : Nat → Nat}
theorem sm_cl1_R {k fr : Nat} {w : Nat → Int32} (hN : sm_Num ML SL FL RM sc fc mc nb md mo) (hC : sm_CL sc fc mc uc nb cost rk kx dx cx fx tx sp fp ff ft rt ag wk nk no nl ky d1 d2 po bo fo nbd) (hu : uc ≤ us ∧ us ≤ RM) (hG : ∀ k, uc ≤ k → k < us → nbd k = nI nb) (h : sm_D1 kx dx cx fx tx sp nk no nl ky d1 d2 po nbd cs sc mc uc us nb D dk dp df pl pd pc pf cd) (hD1 : D = 1) (hpl : pl < 0) (hlt : mc < ML)
    (hfr : fr = 0 ∨ ∃ s, s < sc ∧ fr = 1 + s ∧ (sp s = -1 ∨ sp s = dp) ∧ ∀ l, sm_mx kx (1 + s) l ≠ 0 → sm_mx kx 0 l = sm_mx kx (1 + s) l)
    (hw1 : ∀ j, ¬ j / 8 = mc → w j = wk j) (hw2 : ∀ l, l < 8 → w (8 * mc + l) = nI (sm_cap (sm_ct nk no nl (upd rt mc (nI mc)) (upd ag mc (-1)) cost mc uc (us - uc) l))) :
    i_Rel k (xa, xb, nI ML, nI SL, nI FL, nI RM, nI sc, nI fc, nI (mc + 1), nI us, -1, -1, df, pl, pd, pc, pf, cd, xfr, xht, sm_ck kx fr 0 mc, sm_dd dx dx fr 0 mc (-1), sm_dd cx dx fr 0 mc (-1), sm_ck fx fr 0 mc, sm_ck tx fr 0 mc, sp, fp, ff, ft, upd rt mc (nI mc), upd ag mc (-1), w, nk, no, nl, cs, cn, cb, fM, fA, fI, fB, fP, fF, vx, bx)
      (nI RM, nI (nb + 1), nI us, -1, pl, pd, pc, ydp, yfr, yht, yst, yfa, upd md 1 (nI (mc + 1)), mo, sm_cp (sm_cp ky fr (9 + mc) 8) 0 (31 + nb) 8, sm_cm (sm_cm d1 (sm_sb d1 (upd fo (9 + mc) (-1)) (9 + mc)) fr (9 + mc) 8) (sm_sb (sm_cm d1 (sm_sb d1 (upd fo (9 + mc) (-1)) (9 + mc)) fr (9 + mc) 8) (upd fo (9 + mc) (-1)) (31 + nb)) 0 (31 + nb) 8, sm_cm (sm_cm d2 (sm_sb d1 (upd fo (9 + mc) (-1)) (9 + mc)) fr (9 + mc) 8) (sm_sb (sm_cm d1 (sm_sb d1 (upd fo (9 + mc) (-1)) (9 + mc)) fr (9 + mc) 8) (upd fo (9 + mc) (-1)) (31 + nb)) 0 (31 + nb) 8, upd po (9 + mc) (po 0), upd bo (9 + mc) (nI nb), upd fo (9 + mc) (-1), nk, no, nbd, nl, cn, cb, ck, rA, rN, rD, rC, rO, rX, vY, bY) := by
  obtain ⟨⟨n1, n2, n3, n4, n5, n6, n7⟩, ⟨hsc, hmc, hfc, hnb⟩, ⟨m0, m1, m2⟩, hmo⟩ := hN
  obtain ⟨⟨e1, e2, e3, e4⟩, e5, e6, e7, L0, T0, z0, z1⟩ := h
  have hz : D ≠ 0 := by omega
  have edp := e6 hD1
  obtain ⟨dr, ud, g1, g2, g3, g4, g5, ⟨epl, ecd, eud⟩ | ⟨L', hL', e, _⟩⟩ := z1 hz
  · subst eud
    have lz : ∀ r, sm_lz sc fc mc r → r ≠ 9 + mc := by intro r hr; unfold sm_lz at hr; omega
    have lx : ∀ r, sm_lx sc fc mc r → r ≠ 9 + mc ∧ r ≠ 31 + mc := by intro r hr; unfold sm_lx at hr; omega
    have ly : ∀ r, sm_ly sc fc mc nb r → r ≠ 9 + mc ∧ r ≠ 31 + nb := by intro r hr; unfold sm_ly at hr; omega
    have yo : ∀ (A : Nat → Int32) (f1 f2 : Int32 → Int32) r, r ≠ 9 + mc ∧ r ≠ 31 + nb → sm_mx (sm_cm (sm_cm A f1 fr (9 + mc) 8) f2 0 (31 + nb) 8) r = sm_mx A r := fun A f1 f2 r hr => by rw [sm_cmo (Nat.le_refl _) hr.2, sm_cmo (Nat.le_refl _) hr.1]
    have yf : ∀ (A : Nat → Int32) (f1 f2 : Int32 → Int32) l, sm_mx (sm_cm (sm_cm A f1 fr (9 + mc) 8) f2 0 (31 + nb) 8) (9 + mc) l = f1 (sm_mx A fr l) := fun A f1 f2 l => by rw [sm_cmo (Nat.le_refl _) (by omega), sm_cmt]
    have yb : ∀ (A : Nat → Int32) (f1 f2 : Int32 → Int32) l, sm_mx (sm_cm (sm_cm A f1 fr (9 + mc) 8) f2 0 (31 + nb) 8) (31 + nb) l = f2 (sm_mx A 0 l) := fun A f1 f2 l => by rw [sm_cmt, sm_cmo (Nat.le_refl _) (by omega)]
    have sb2 : ∀ A l, sm_sb A (upd fo (9 + mc) (-1)) (31 + nb) l = l := fun A l => sm_sb_hi (by omega)
    have E : sm_Eq sc fc mc uc nb cost rk (sm_cs cost mc (sm_ct nk no nl (upd rt mc (nI mc)) (upd ag mc (-1)) cost mc uc (ud - uc))) (sm_cs rk mc (fun l => 8 * mc + dr l)) kx dx cx fx tx sp fp ff ft rt ag wk nk no nl ky d1 d2 po bo fo nbd (sm_ck kx fr 0 mc) (sm_dd dx dx fr 0 mc (-1)) (sm_dd cx dx fr 0 mc (-1)) (sm_ck fx fr 0 mc) (sm_ck tx fr 0 mc) sp fp ff ft (upd rt mc (nI mc)) (upd ag mc (-1)) w nk no nl (sm_cp (sm_cp ky fr (9 + mc) 8) 0 (31 + nb) 8) (sm_cm (sm_cm d1 (sm_sb d1 (upd fo (9 + mc) (-1)) (9 + mc)) fr (9 + mc) 8) (sm_sb (sm_cm d1 (sm_sb d1 (upd fo (9 + mc) (-1)) (9 + mc)) fr (9 + mc) 8) (upd fo (9 + mc) (-1)) (31 + nb)) 0 (31 + nb) 8) (sm_cm (sm_cm d2 (sm_sb d1 (upd fo (9 + mc) (-1)) (9 + mc)) fr (9 + mc) 8) (sm_sb (sm_cm d1 (sm_sb d1 (upd fo (9 + mc) (-1)) (9 + mc)) fr (9 + mc) 8) (upd fo (9 + mc) (-1)) (31 + nb)) 0 (31 + nb) 8) (upd po (9 + mc) (po 0)) (upd bo (9 + mc) (nI nb)) (upd fo (9 + mc) (-1)) nbd :=
      ⟨fun r hr => ⟨sm_ck_o (lx r hr).1 (lx r hr).2, sm_dd_o (lx r hr).1 (lx r hr).2, sm_dd_o (lx r hr).1 (lx r hr).2, sm_ck_o (lx r hr).1 (lx r hr).2, sm_ck_o (lx r hr).1 (lx r hr).2⟩, fun r hr => ⟨by rw [sm_cpo (ly r hr).2, sm_cpo (ly r hr).1], yo _ _ _ _ (ly r hr), yo _ _ _ _ (ly r hr)⟩, fun _ _ => rfl, fun _ _ => ⟨rfl, rfl, rfl⟩, fun q hq => ⟨pk_un (by omega), pk_un (by omega)⟩, fun i hi => ⟨hw1 i (by omega), sm_cs_o hi, sm_cs_o hi⟩, fun _ _ => ⟨rfl, rfl, rfl, rfl⟩, fun r hr => ⟨pk_un (lz r hr), pk_un (lz r hr), pk_un (lz r hr)⟩⟩
    have hlow : ∀ k, uc ≤ k → k < ud → ∀ b, b < nb → ¬ nbd k = nI b := by
      intro k k1 k2 b hb e
      rw [hG k k1 k2] at e
      have := sm_inj e (by omega) (by omega)
      omega
    have hnod : ∀ i, i < ud → (nbd i = nI nb ↔ (uc ≤ i ∧ i < ud)) := by
      intro i hi
      refine ⟨fun z => ⟨Nat.le_of_not_lt fun w => ?_, hi⟩, fun z => hG i z.1 z.2⟩
      obtain ⟨b', hb', eb'⟩ := hC.2.1 i w
      rw [eb'] at z
      have := sm_inj z (by omega) (by omega)
      omega
    have dpF : ∀ j, ¬ sm_DN kx sc dp j := by
      rintro j ⟨p', hp', ep', hj⟩
      rw [edp] at ep'
      exact sm_ne1 (by omega) ep'.symm
    have dp2F : ∀ j, ¬ sm_D2 kx sc dp j := by
      rintro j ⟨p', hp', ep', hj⟩
      rw [edp] at ep'
      exact sm_ne1 (by omega) ep'.symm
    have Lf : sm_LR kx dx cx ky d1 d2 fr ∧ sm_Tr sm_T1 (fun _ => False) (sm_mx kx fr) (sm_mx dx fr) (sm_mx cx fr) ∧ (∀ l, sm_mx kx fr l = 2 → sm_mx kx 0 l = 2) ∧ fr < 9 := by
      rcases hfr with rfl | ⟨s, hs, rfl, hss, hsm⟩
      · exact ⟨L0, sm_Tr_mono (fun _ _ _ => trivial) (fun j _ hj => dpF j hj) T0, fun l z => z, by omega⟩
      · obtain ⟨q1, q2, q3, q4⟩ := hC.2.2.1 s hs
        refine ⟨q1, sm_Tr_mono (fun _ _ _ => trivial) (fun j _ ⟨p', hp', ep', hj⟩ => ?_) q4, fun l z => by rw [hsm l (by rw [z]; decide)]; exact z, by omega⟩
        rw [edp] at hss
        rw [hss.elim id id] at ep'
        exact sm_ne1 (by omega) ep'.symm
    have NM := sm_newroot (fr := fr) (br := 0) (b := nb) (a0 := uc) (c0 := ud) (uc' := ud) (nb' := nb + 1) (B := fun _ => False) (P1 := sm_D2 kx sc dp) (dr := dr) (g := -1) (by omega) (by omega) (by omega) (by omega) E hC.2.2.2.1
      sm_ck_9 sm_dd_9 sm_dd_9 (by rw [sm_cpo (by omega), sm_cpt]) (fun l => by rw [yf]) (fun l => by rw [yf]) (sm_ck_31 (by omega)) (sm_dd_31 (Or.inl rfl) (by omega) (by omega)) (sm_dd_31 (Or.inl rfl) (by omega) (by omega)) (sm_ck_31 (by omega)) (sm_ck_31 (by omega))
      Lf.1 Lf.2.1 (fun _ _ z => z.elim) Lf.2.2.1 (fun l hl => by
        rw [yb, yb, sb2, sb2]
        obtain ⟨q1, q2⟩ := (sm_LR_12 L0 l).2 hl
        obtain ⟨t1, t2⟩ := T0 l (by rw [hl]; decide)
        exact ⟨q1, q2, sm_Ts_mono (fun _ _ _ => trivial) (fun j _ z => dpF j z) t1, sm_Ts_mono (fun _ _ _ => trivial) (fun j _ z => dpF j z) t2⟩)
      pk_us (by omega) (Or.inl ⟨rfl, pk_us⟩) pk_us pk_us g4 (fun j z => absurd z (dp2F j)) (fun l hl hk => by
        have := g3 l hl hk
        have := sm_cnt_le (sm_mx kx 0)
        omega)
      (fun l hl => sm_cs_n hl) rfl hw2 (Nat.le_refl _) hnod
    refine sm_in (uc := ud) (cost := sm_cs cost mc (sm_ct nk no nl (upd rt mc (nI mc)) (upd ag mc (-1)) cost mc uc (ud - uc))) (rk := sm_cs rk mc (fun l => 8 * mc + dr l)) ⟨⟨n1, n2, n3, n4, n5, n6, n7⟩, ⟨hsc, by omega, hfc, by omega⟩, ⟨(pk_un (by decide)).trans m0, pk_us, (pk_un (by decide)).trans m2⟩, hmo⟩ ?_ ⟨⟨Nat.le_refl _, hu.2⟩, fun k a b => absurd a (by omega), Or.inl ⟨rfl, rfl, epl, ecd, rfl⟩⟩
    refine sm_CL_add E (by omega) (by omega) (by omega) (by omega) g1 (Nat.le_succ nb) hlow hC (fun i hi => ?_) (fun k hk => ?_) NM
    · rw [hw1 i (by omega)]; exact hC.1 i (by omega)
    · by_cases q : k < uc
      · obtain ⟨b', hb', eb'⟩ := hC.2.1 k q
        exact ⟨b', by omega, eb'⟩
      · exact ⟨nb, by omega, hG k (by omega) hk⟩
  · rw [e] at hpl
    exact absurd hpl (nI_pos (by omega))
theorem sm_cl1_M (hN : sm_Num ML SL FL RM sc fc mc nb md mo) (hC : sm_CL sc fc mc uc nb cost rk kx dx cx fx tx sp fp ff ft rt ag wk nk no nl ky d1 d2 po bo fo nbd) (hu : uc ≤ us ∧ us ≤ RM) (hG : ∀ k, uc ≤ k → k < us → nbd k = nI nb) (h : sm_D1 kx dx cx fx tx sp nk no nl ky d1 d2 po nbd cs sc mc uc us nb D dk dp df pl pd pc pf cd) (hD1 : D = 1) (hpl : pl < 0) (hlt : mc < ML) :
    ∀ i, uc ≤ i → i < us → ∃ L, L < 8 ∧ nl i = nI L ∧ (nk i = 5 → ∃ W m r, W < 2 ^ 31 ∧ no i = nI W ∧ ((W / 8 = 0 → m = mc) ∧ (W / 8 = 1 → upd ag mc (-1) mc = nI m) ∧ (2 ≤ W / 8 → m = W / 8 - 2)) ∧ m < 16 ∧ r < 16 ∧ upd rt mc (nI mc) m = nI r ∧ (W / 8 = 0 → r = mc) ∧ (W / 8 ≠ 0 → r ≠ mc ∧ wk (8 * r + W % 8) = nI (sm_cap (cost (8 * r + W % 8))))) := by
  obtain ⟨⟨n1, n2, n3, n4, n5, n6, n7⟩, ⟨hsc, hmc, hfc, hnb⟩, ⟨m0, m1, m2⟩, hmo⟩ := hN
  obtain ⟨⟨e1, e2, e3, e4⟩, e5, e6, e7, L0, T0, z0, z1⟩ := h
  have hz : D ≠ 0 := by omega
  have edp := e6 hD1
  obtain ⟨dr, ud, g1, g2, g3, g4, g5, ⟨epl, ecd, eud⟩ | ⟨L', hL', e, _⟩⟩ := z1 hz
  · subst eud
    have hnod : ∀ i, i < ud → (nbd i = nI nb ↔ (uc ≤ i ∧ i < ud)) := by
      intro i hi
      refine ⟨fun z => ⟨Nat.le_of_not_lt fun w => ?_, hi⟩, fun z => hG i z.1 z.2⟩
      obtain ⟨b', hb', eb'⟩ := hC.2.1 i w
      rw [eb'] at z
      have := sm_inj z (by omega) (by omega)
      omega
    refine sm_meas_ok (uc' := ud) (b := nb) (g := -1) (by omega) (by omega) hC.2.2.2.1 (fun q hq => pk_un (by omega)) pk_us pk_us g4 ?_ (Nat.le_refl _) hnod g5
    rintro j ⟨p', hp', ep', hj⟩
    rw [edp] at ep'
    exact absurd ep'.symm (sm_ne1 (by omega))
  · rw [e] at hpl
    exact absurd hpl (nI_pos (by omega))
end sm_R
end
section
section sm_Y
variable {yrm ynb yus ydk ypl ypd ypc ydp yfr yht yst yfa : Int32} {md mo ky d1 d2 po bo fo ynk yno nbd ynl ycn ycb ck rA rN rD rC rO rX vY bY : Nat → Int32}
theorem sm_y85 {q : Int32 → SY → Prop} {D c m : Nat} {x2 x3 : Int32} (hD : D < 3) (hc : c < 2 ^ 31) (hm : m < 2 ^ 31) (e1 : md D = nI c) (e2 : mo D = nI m)
    (h1 : c < m → ((x2 = 0 → wY_close_123 q x3 0 yrm ynb yus (nI D) ypl ypd ypc ydp yfr yht yst yfa md mo ky d1 d2 po bo fo ynk yno nbd ynl ycn ycb ck rA rN rD rC rO rX vY bY) ∧ (¬ x2 = 0 → wpY_match (fun r => wY_close_123 q x3 r yrm ynb yus (nI D) ypl ypd ypc ydp yfr yht yst yfa md mo ky d1 d2 po bo fo ynk yno nbd ynl ycn ycb ck rA rN rD rC rO rX vY bY) (yrm, ynb, yus, nI D, ypl, ypd, ypc, ydp, yfr, yht, yst, yfa, md, mo, ky, d1, d2, po, bo, fo, ynk, yno, nbd, ynl, ycn, ycb, ck, rA, rN, rD, rC, rO, rX, vY, bY) 0 x3))) (h2 : ¬ c < m → q (-3) (yrm, ynb, yus, nI D, ypl, ypd, ypc, ydp, yfr, yht, yst, yfa, md, mo, ky, d1, d2, po, bo, fo, ynk, yno, nbd, ynl, ycn, ycb, ck, rA, rN, rD, rC, rO, rX, vY, bY)) : wY_close_85 q x2 x3 yrm ynb yus (nI D) ypl ypd ypc ydp yfr yht yst yfa md mo ky d1 d2 po bo fo ynk yno nbd ynl ycn ycb ck rA rN rD rC rO rX vY bY := by
  have i : vp_in (nI D) 3 := vp_in_nI hD (by omega)
  unfold wY_close_85
  rw [nI_clamp (by omega), e1, e2]
  by_cases z : c < m
  · exact ⟨i, i, br_t (nI_lt z hm) (h1 z)⟩
  · exact ⟨i, i, br_f (nI_nlt (by omega) hc) (h2 z)⟩
end sm_Y
theorem i_vc_close {k : Nat} {u : SX} {v : SY} (I : i_Rel k u v) (hk : k + 5 ≤ 2564) (v1 : Int32) : wpX_close (fun r u' => wpY_close (fun r' v' => r' = r ∧ i_Rel (k + 5) u' v') v v1) u v1 := by
  refine sm_el (P := fun u v => i_Rel (k + 5) u v → wpX_close (fun r u' => wpY_close (fun r' v' => r' = r ∧ i_Rel (k + 5) u' v') v v1) u v1) ?_ I (i_up I)
  intro uc cost rk ML SL FL RM sc fc mc us nb xa xb dk dp df pl pd pc pf cd xfr xht ydp yfr yht yst yfa kx dx cx fx tx sp fp ff ft rt ag wk nk no nl cs cn cb fM fA fI fB fP fF vx bx md mo ky d1 d2 po bo fo nbd ck rA rN rD rC rO rX vY bY hN hC hD J
  have hN' := hN
  obtain ⟨⟨n1, n2, n3, n4, n5, n6, n7⟩, ⟨hsc, hmc, hfc, hnb⟩, ⟨m0, m1, m2⟩, ⟨o0, o1, o2⟩⟩ := hN'
  have Sg := hC.2.2.1
  obtain ⟨hu, hG, ⟨rfl, rfl, rfl, rfl, rfl⟩ | ⟨D, hD1⟩⟩ := hD
  · exact br_t sm_n1lt (br_t sm_n1lt ⟨rfl, J⟩)
  · have hD1' := hD1
    obtain ⟨⟨e1, rfl, rfl, e4⟩, e5, e6, e7, L0, T0, z0, z1⟩ := hD1'
    have hd : ¬ nI D < 0 := nI_pos (by omega)
    by_cases hp : pl < 0
    · refine br_f hd (br_t hp ?_)
      have hDc : D = 0 ∨ D = 1 ∨ D = 2 := by omega
      by_cases hD0 : D = 0
      · subst hD0
        have Y : ∀ q : Int32 → SY → Prop, (sc < SL → wY_close_123 q 0 0 (nI RM) (nI nb) (nI us) 0 pl pd pc ydp yfr yht yst yfa md mo ky d1 d2 po bo fo nk no nbd nl cn cb ck rA rN rD rC rO rX vY bY) → (¬ sc < SL → q (-3) (nI RM, nI nb, nI us, 0, pl, pd, pc, ydp, yfr, yht, yst, yfa, md, mo, ky, d1, d2, po, bo, fo, nk, no, nbd, nl, cn, cb, ck, rA, rN, rD, rC, rO, rX, vY, bY)) → wpY_close q (nI RM, nI nb, nI us, nI 0, pl, pd, pc, ydp, yfr, yht, yst, yfa, md, mo, ky, d1, d2, po, bo, fo, nk, no, nbd, nl, cn, cb, ck, rA, rN, rD, rC, rO, rX, vY, bY) v1 := by
          intro q a b
          refine br_f hd (br_t hp (br_t rfl ?_))
          show wY_close_34 q v1 0 (nI RM) (nI nb) (nI us) (nI 0) pl pd pc ydp yfr yht yst yfa md mo ky d1 d2 po bo fo nk no nbd nl cn cb ck rA rN rD rC rO rX vY bY
          refine br_t rfl (br_f (by decide) (br_t rfl ?_))
          exact sm_y85 (D := 0) (by omega) (by omega) (by omega) m0 o0 (fun z => br_t rfl (a z)) b
        refine br_t rfl ?_
        by_cases hlt : sc < SL
        · refine sm_xcs (by omega) (Y _ (fun _ => sm_ycl0 (by omega) m0 ⟨rfl, ?_⟩) (fun z => absurd hlt z)) (nI_lt hlt (by omega))
          exact sm_cl0_R hN hC hu hD1 rfl hlt
        · exact br_f (nI_nlt (by omega) (by omega)) (Y _ (fun z => absurd z hlt) (fun _ => ⟨rfl, J⟩))
      · have dz : ¬ nI D = 0 := nI_ne0 (by omega) (by omega)
        refine br_f dz ?_
        have rest : ∀ (x2 : Int32) (fr : Nat), (v1 = -1 ∧ fr = 0 ∧ x2 = 0) ∨ (¬ v1 = -1 ∧ x2 = 1 ∧ ∃ s, s < sc ∧ v1 = nI s ∧ fr = 1 + s ∧ (sp s = -1 ∨ sp s = dp)) → (∀ q : Int32 → SY → Prop, wY_close_85 q x2 (nI fr) (nI RM) (nI nb) (nI us) (nI D) pl pd pc ydp yfr yht yst yfa md mo ky d1 d2 po bo fo nk no nbd nl cn cb ck rA rN rD rC rO rX vY bY → wpY_close q (nI RM, nI nb, nI us, nI D, pl, pd, pc, ydp, yfr, yht, yst, yfa, md, mo, ky, d1, d2, po, bo, fo, nk, no, nbd, nl, cn, cb, ck, rA, rN, rD, rC, rO, rX, vY, bY) v1) → wX_close_44 (fun r u' => wpY_close (fun r' v' => r' = r ∧ i_Rel (k + 5) u' v') (nI RM, nI nb, nI us, nI D, pl, pd, pc, ydp, yfr, yht, yst, yfa, md, mo, ky, d1, d2, po, bo, fo, nk, no, nbd, nl, cn, cb, ck, rA, rN, rD, rC, rO, rX, vY, bY) v1) v1 xa xb (nI ML) (nI SL) (nI FL) (nI RM) (nI sc) (nI fc) (nI mc) (nI us) (nI D) dp (nI uc) pl pd pc pf cd xfr xht kx dx cx fx tx sp fp ff ft rt ag wk nk no nl cs cn cb fM fA fI fB fP fF vx bx := by
          intro x2 fr hx Y
          have hfr53 : fr < 9 := by
            rcases hx with ⟨_, e, _⟩ | ⟨_, _, s, hs, _, e, _⟩ <;> omega
          have hM : ∃ r : Int32, (∀ post : Int32 → Prop, ¬ v1 = -1 → post r → wpX_match post (xa, xb, nI ML, nI SL, nI FL, nI RM, nI sc, nI fc, nI mc, nI us, nI D, dp, nI uc, pl, pd, pc, pf, cd, xfr, xht, kx, dx, cx, fx, tx, sp, fp, ff, ft, rt, ag, wk, nk, no, nl, cs, cn, cb, fM, fA, fI, fB, fP, fF, vx, bx) 0 v1) ∧ (∀ post : Int32 → Prop, ¬ v1 = -1 → post r → wpY_match post (nI RM, nI nb, nI us, nI D, pl, pd, pc, ydp, yfr, yht, yst, yfa, md, mo, ky, d1, d2, po, bo, fo, nk, no, nbd, nl, cn, cb, ck, rA, rN, rD, rC, rO, rX, vY, bY) 0 (nI fr)) ∧ (v1 = -1 → r = 0) ∧ (r = 0 → (fr = 0 ∨ ∃ s, s < sc ∧ fr = 1 + s ∧ (sp s = -1 ∨ sp s = dp) ∧ ∀ l, sm_mx kx (1 + s) l ≠ 0 → sm_mx kx 0 l = sm_mx kx (1 + s) l)) := by
            rcases hx with ⟨ev, e, _⟩ | ⟨ev, _, s, hs, es, e, hss⟩
            · exact ⟨0, fun _ z => absurd ev z, fun _ z => absurd ev z, fun _ => rfl, fun _ => Or.inl e⟩
            · obtain ⟨q1, q2, q3, q4⟩ := Sg s hs
              obtain ⟨r, hX, hY, hr⟩ := sm_match (xa := xa) (xb := xb) (xml := nI ML) (xsl := nI SL) (xfl := nI FL) (xrm := nI RM) (xsc := nI sc) (xfc := nI fc) (xmc := nI mc) (xus := nI us) (dk := nI D) (dp := dp) (df := nI uc) (pl := pl) (pd := pd) (pc := pc) (pf := pf) (cd := cd) (xfr := xfr) (xht := xht) (kx := kx) (dx := dx) (cx := cx) (fx := fx) (tx := tx) (sp := sp) (fp := fp) (ff := ff) (ft := ft) (rt := rt) (ag := ag) (wk := wk) (nk := nk) (no := no) (nl := nl) (cs := cs) (cn := cn) (cb := cb) (fM := fM) (fA := fA) (fI := fI) (fB := fB) (fP := fP) (fF := fF) (vx := vx) (bx := bx) (yrm := nI RM) (ynb := nI nb) (yus := nI us) (ydk := nI D) (ypl := pl) (ypd := pd) (ypc := pc) (ydp := ydp) (yfr := yfr) (yht := yht) (yst := yst) (yfa := yfa) (md := md) (mo := mo) (ky := ky) (d1 := d1) (d2 := d2) (po := po) (bo := bo) (fo := fo) (ynk := nk) (yno := no) (nbd := nbd) (ynl := nl) (ycn := cn) (ycb := cb) (ck := ck) (rA := rA) (rN := rN) (rD := rD) (rC := rC) (rO := rO) (rX := rX) (vY := vY) (bY := bY) (f := 0) (s := s) (by omega) (by omega) L0 q1 (fun l hl => ⟨(q4 l hl).1.1, (q4 l hl).2.1⟩)
              subst es e
              exact ⟨r, fun post _ hp => hX post hp, fun post _ hp => hY post hp, fun z => absurd z ev, fun z => Or.inr ⟨s, hs, rfl, hss, hr z⟩⟩
          obtain ⟨r, hX, hY, hr1, hr2⟩ := hM
          have go : ∀ (full : Prop) (c m : Nat), c < 2 ^ 31 → m < 2 ^ 31 → md D = nI c → mo D = nI m → (c < m → r = 0 → wX_close_124 (fun r u' => wpY_close (fun r' v' => r' = r ∧ i_Rel (k + 5) u' v') (nI RM, nI nb, nI us, nI D, pl, pd, pc, ydp, yfr, yht, yst, yfa, md, mo, ky, d1, d2, po, bo, fo, nk, no, nbd, nl, cn, cb, ck, rA, rN, rD, rC, rO, rX, vY, bY) v1) (nI fr) xa xb (nI ML) (nI SL) (nI FL) (nI RM) (nI sc) (nI fc) (nI mc) (nI us) (nI D) dp (nI uc) pl pd pc pf cd xfr xht kx dx cx fx tx sp fp ff ft rt ag wk nk no nl cs cn cb fM fA fI fB fP fF vx bx) → ((c < m → wX_close_87 (fun r u' => wpY_close (fun r' v' => r' = r ∧ i_Rel (k + 5) u' v') (nI RM, nI nb, nI us, nI D, pl, pd, pc, ydp, yfr, yht, yst, yfa, md, mo, ky, d1, d2, po, bo, fo, nk, no, nbd, nl, cn, cb, ck, rA, rN, rD, rC, rO, rX, vY, bY) v1) v1 0 xa xb (nI ML) (nI SL) (nI FL) (nI RM) (nI sc) (nI fc) (nI mc) (nI us) (nI D) dp (nI uc) pl pd pc pf cd xfr xht kx dx cx fx tx sp fp ff ft rt ag wk nk no nl cs cn cb fM fA fI fB fP fF vx bx) ∧ (¬ c < m → wX_close_87 (fun r u' => wpY_close (fun r' v' => r' = r ∧ i_Rel (k + 5) u' v') (nI RM, nI nb, nI us, nI D, pl, pd, pc, ydp, yfr, yht, yst, yfa, md, mo, ky, d1, d2, po, bo, fo, nk, no, nbd, nl, cn, cb, ck, rA, rN, rD, rC, rO, rX, vY, bY) v1) v1 1 xa xb (nI ML) (nI SL) (nI FL) (nI RM) (nI sc) (nI fc) (nI mc) (nI us) (nI D) dp (nI uc) pl pd pc pf cd xfr xht kx dx cx fx tx sp fp ff ft rt ag wk nk no nl cs cn cb fM fA fI fB fP fF vx bx)) := by
            intro _ c m hc hm ec em h124
            refine ⟨fun z => br_t rfl ?_, fun z => br_f (by decide) (Y _ (sm_y85 (by omega) hc hm ec em (fun w => absurd w z) (fun _ => ⟨rfl, J⟩)))⟩
            refine br_c (fun ev => ?_) (fun ev => hX _ ev (br_c (fun er => ?_) (fun er => Y _ (sm_y85 (by omega) hc hm ec em (fun _ => br_f ?_ (hY _ ev (br_f er ⟨rfl, J⟩))) (fun w => absurd z w)))))
            · have e0 : fr = 0 := by
                rcases hx with ⟨_, e, _⟩ | ⟨z, _⟩
                · exact e
                · exact absurd ev z
              have K := h124 z (hr1 ev)
              rw [e0] at K
              exact K
            · have e1 : ∃ s, v1 = nI s ∧ fr = 1 + s := by
                rcases hx with ⟨z, _⟩ | ⟨_, _, s, _, es, e, _⟩
                · exact absurd z ev
                · exact ⟨s, es, e⟩
              obtain ⟨s, es, ef⟩ := e1
              have K := h124 z er
              rw [es]
              show wX_close_124 _ (1 + nI s) xa xb (nI ML) (nI SL) (nI FL) (nI RM) (nI sc) (nI fc) (nI mc) (nI us) (nI D) dp (nI uc) pl pd pc pf cd xfr xht kx dx cx fx tx sp fp ff ft rt ag wk nk no nl cs cn cb fM fA fI fB fP fF vx bx
              rw [sm_l1, ← ef, ← es]
              exact K
            · rcases hx with ⟨z, _⟩ | ⟨_, e, _⟩
              · exact absurd z ev
              · rw [e]; decide
          have yfin : ∀ (q : Int32 → SY → Prop) (c m : Nat), c < 2 ^ 31 → m < 2 ^ 31 → md D = nI c → mo D = nI m → c < m → r = 0 → wY_close_123 q (nI fr) 0 (nI RM) (nI nb) (nI us) (nI D) pl pd pc ydp yfr yht yst yfa md mo ky d1 d2 po bo fo nk no nbd nl cn cb ck rA rN rD rC rO rX vY bY → wpY_close q (nI RM, nI nb, nI us, nI D, pl, pd, pc, ydp, yfr, yht, yst, yfa, md, mo, ky, d1, d2, po, bo, fo, nk, no, nbd, nl, cn, cb, ck, rA, rN, rD, rC, rO, rX, vY, bY) v1 := by
            intro q c m hc hm ec em hlt er h
            refine Y _ (sm_y85 (by omega) hc hm ec em (fun _ => br_c (fun _ => h) (fun hx2 => hY _ ?_ ?_)) (fun w => absurd hlt w))
            · rcases hx with ⟨_, _, e⟩ | ⟨e, _⟩
              · exact absurd e hx2
              · exact e
            · rw [er]; exact h
          rcases hDc with z | z | z
          · exact absurd z hD0
          · subst z
            have G := go True mc ML (by omega) (by omega) m1 o1 (fun hlt er => ?_)
            · exact br_t rfl (br_c (fun z => G.1 ((nI_ltI (by omega) (by omega)).mp z)) (fun z => G.2 fun w => z (nI_lt w (by omega))))
            · refine br_t rfl (sm_xadd (br := 0) (cost := cost) (by omega) (by omega) (by omega) (by omega) (by omega) (Or.inl rfl) (by omega) hu.1 (fun l hl => hC.1 _ (by omega)) (sm_cl1_M hN hC hu hG hD1 rfl hp hlt) (fun w h1 h2 => ?_))
              exact sm_xfd (yfin _ mc ML (by omega) (by omega) m1 o1 hlt er (sm_ycl1 (by omega) (by omega) (by omega) (by omega) m1 ⟨rfl, sm_cl1_R hN hC hu hG hD1 rfl hp hlt (hr2 er) h1 h2⟩))
          · subst z
            have G := go True fc FL (by omega) (by omega) m2 o2 (fun hlt er => ?_)
            · exact br_f (by decide) (br_c (fun z => G.1 ((nI_ltI (by omega) (by omega)).mp z)) (fun z => G.2 fun w => z (nI_lt w (by omega))))
            · refine br_f (by decide) (sm_xaf (by omega) (by omega) (by omega) ?_)
              exact sm_xfd (yfin _ fc FL (by omega) (by omega) m2 o2 hlt er (sm_ycl2 (by omega) (by omega) (by omega) (by omega) m2 ⟨rfl, sm_cl2_R hN hC hu hG hD1 rfl hp hlt (hr2 er)⟩))
        by_cases ev : v1 = -1
        · refine br_t ev (rest 0 0 (Or.inl ⟨ev, rfl, rfl⟩) (fun q h => br_f hd (br_t hp (br_f dz (br_t ev ?_)))))
          show wY_close_34 q v1 0 (nI RM) (nI nb) (nI us) (nI D) pl pd pc ydp yfr yht yst yfa md mo ky d1 d2 po bo fo nk no nbd nl cn cb ck rA rN rD rC rO rX vY bY
          exact br_t rfl (br_f (by decide) (br_t rfl h))
        · refine br_f ev (sm_xseal (by omega) (fun hn => br_t rfl ?_) (fun s hs es hss => br_f (by decide) (rest 1 (1 + s) (Or.inr ⟨ev, rfl, s, hs, es, rfl, hss⟩) (fun q h => br_f hd (br_t hp (br_f dz (br_f ev ?_)))))))
          · refine br_f hd (br_t hp (br_f dz (br_f ev (br_f (by decide) ?_))))
            refine sm_yf0 (by omega) m0 (fun _ => br_t sm_n1lt ⟨rfl, J⟩) (fun j hj e => ?_)
            obtain ⟨h1, h2⟩ := hn j hj e
            refine br_f (nI_pos (by omega)) (br_f (by decide) ⟨vp_in_nI (by omega) (by omega), ?_⟩)
            rw [nI_clamp (by omega), (Sg j hj).2.1, e4]
            exact br_f h1 ⟨vp_in_nI (by omega) (by omega), br_f h2 ⟨rfl, J⟩⟩
          · refine br_f (by decide) (sm_yf0 (by omega) m0 (fun hn => absurd es (hn s hs)) (fun j hj e => ?_))
            have ej := sm_inj (es.symm.trans e) (by omega) (by omega)
            subst ej
            refine br_f (nI_pos (by omega)) (br_f (by decide) ⟨vp_in_nI (by omega) (by omega), ?_⟩)
            rw [nI_clamp (by omega), (Sg s hs).2.1, e4]
            rcases hss with w | w
            · exact br_t w h
            · exact br_c (fun _ => h) (fun _ => ⟨vp_in_nI (by omega) (by omega), br_t w h⟩)
    · exact br_f hd (br_f hp (br_f hd (br_f hp ⟨rfl, J⟩)))
end
section
theorem sm_trsb2 {dx d1 fo : Nat → Int32} {n : Nat} {g t : Int32} (hn : n < 16) (h : ∀ j, j < 8 → t ≠ nI (8 + j)) : sm_tr dx n g t = sm_sb d1 fo (9 + n) t := by
  rcases sm_t4 t with h4 | ⟨j, hj, rfl⟩ | ⟨j, hj, rfl⟩ | ⟨k, h16, hk, rfl⟩
  · rw [sm_tr_neg h4, sm_sb_neg h4]
  · rw [sm_tr_own hj, sm_sb_own (by omega) (by omega) hj, show 9 + n - 9 = n by omega]
  · exact absurd rfl (h j hj)
  · rw [sm_tr_big h16 hk, sm_sb_big h16 hk]
theorem sm_sb_id {a fo : Nat → Int32} {g : Nat} {t : Int32} (h : sm_Ts (fun _ => False) (fun _ => False) t) : sm_sb a fo g t = t := by
  rcases sm_t4 t with h4 | ⟨j, hj, rfl⟩ | ⟨j, hj, rfl⟩ | ⟨k, h16, hk, rfl⟩
  · exact sm_sb_neg h4
  · exact (h.1 j hj rfl).elim
  · exact (h.2 j hj rfl).elim
  · exact sm_sb_big h16 hk
theorem sm_Tn_mono {kx dx cx kx' dx' cx' : Nat → Int32} {sc mc mc' d : Nat} {dp pd k w : Int32} {t t' : Nat → Int32} (hm : mc ≤ mc')
    (hr : ∀ W, sm_pl sc mc dp W → sm_mx kx' (sm_rw dp W) = sm_mx kx (sm_rw dp W) ∧ sm_mx dx' (sm_rw dp W) = sm_mx dx (sm_rw dp W) ∧ sm_mx cx' (sm_rw dp W) = sm_mx cx (sm_rw dp W)) (H : sm_Tn kx dx cx sc mc dp pd k w d t t') : sm_Tn kx' dx' cx' sc mc' dp pd k w d t t' := by
  obtain ⟨h0, h1, h5, ha⟩ := H
  refine ⟨h0, h1, fun e => ?_, ha⟩
  obtain ⟨g1, W, hW, eW, g2, g3, g4, g5⟩ := h5 e
  obtain ⟨r1, r2, r3⟩ := hr W g2
  exact ⟨g1, W, hW, eW, ⟨g2.1, fun z => by have := g2.2 z; omega⟩, by rw [r1]; exact g3, by rw [r2]; exact g4, by rw [r3]; exact g5⟩
theorem sm_DR_mod {kx dx cx fx tx sp nk no nl ky d1 d2 po nbd cs kx' dx' cx' fx' tx' ky' d1' d2' po' : Nat → Int32} {sc mc uc us nb RM : Nat} {dk dp df pl pd pc pf cd : Int32} (hs8 : sc ≤ 8)
    (hr : ∀ r, r < 9 + mc → sm_mx kx' r = sm_mx kx r ∧ sm_mx dx' r = sm_mx dx r ∧ sm_mx cx' r = sm_mx cx r ∧ sm_mx fx' r = sm_mx fx r ∧ sm_mx tx' r = sm_mx tx r)
    (hy : sm_mx ky' 0 = sm_mx ky 0 ∧ sm_mx d1' 0 = sm_mx d1 0 ∧ sm_mx d2' 0 = sm_mx d2 0) (hpo : po' 0 = po 0) (h : sm_DR kx dx cx fx tx sp nk no nl ky d1 d2 po nbd cs sc mc uc us nb RM dk dp df pl pd pc pf cd) : sm_DR kx' dx' cx' fx' tx' sp nk no nl ky' d1' d2' po' nbd cs sc (mc + 1) uc us nb RM dk dp df pl pd pc pf cd := by
  obtain ⟨hu, hG, hD⟩ := h
  refine ⟨hu, hG, hD.imp id (fun ⟨D, hD1⟩ => ⟨D, ?_⟩)⟩
  obtain ⟨⟨e1, e2, e3, e4⟩, e5, e6, e7, L0, T0, z0, z1⟩ := hD1
  obtain ⟨x1, x2, x3, x4, x5⟩ := hr 0 (by omega)
  obtain ⟨y1, y2, y3⟩ := hy
  have hDA : ∀ j, j < 8 → sm_DA kx D j → sm_DA kx' D j := fun j _ hj => ⟨hj.1, by rw [x1]; exact hj.2⟩
  have hDN : ∀ j, j < 8 → sm_DN kx sc dp j → sm_DN kx' sc dp j := by
    rintro j _ ⟨p, hp, ep, hj⟩
    exact ⟨p, hp, ep, by rw [(hr (1 + p) (by omega)).1]; exact hj⟩
  have hD2 : ∀ j, sm_D2 kx sc dp j → sm_D2 kx' sc dp j := by
    rintro j ⟨p, hp, ep, hj⟩
    exact ⟨p, hp, ep, by rw [(hr (1 + p) (by omega)).1]; exact hj⟩
  refine ⟨⟨e1, e2, e3, hpo.trans e4⟩, e5, e6, e7, sm_LR_congr x1 x2 x3 y1 y2 y3 L0, ?_, z0, fun hz => ?_⟩
  · rw [x1, x2, x3]; exact sm_Tr_mono hDA hDN T0
  · obtain ⟨dr, ud, g1, g2, g3, g4, g5, g6⟩ := z1 hz
    refine ⟨dr, ud, g1, g2, by rw [x1]; exact g3, ?_, by rw [x1]; exact g5, g6.imp id (fun ⟨L, hL, f1, f2, f3, f4, f5, f6, f7, T, f8, f9⟩ => ⟨L, hL, f1, by rw [x1]; exact f2, f3, f4, sm_Ts_mono hDA hDN f5, sm_Ts_mono hDA hDN f6, f7, T, f8, fun n hn => ⟨(f9 n hn).1, sm_Tn_mono (Nat.le_succ _) (fun W hW => ?_) (f9 n hn).2⟩⟩)⟩
    · rw [x1, x4, x5]
      exact sm_Bo_mono (Nat.le_refl _) (fun _ _ => ⟨rfl, rfl, rfl, rfl⟩) (fun l _ _ i i1 i2 => absurd i1 (by omega)) hD2 (fun m j hm hj => by unfold sm_P2 at hj ⊢; rw [(hr (9 + m) (by omega)).1]; exact hj) (Nat.le_succ _) (fun _ _ _ _ _ _ z => z) (fun _ _ _ _ _ _ => trivial) g4
    · have hlt : sm_rw dp W < 9 + mc := by
        rcases sm_rw_c hs8 hW with e | ⟨s, hs, _, _, e⟩ | ⟨m, hm, _, _, e⟩ <;> omega
      obtain ⟨q1, q2, q3, _⟩ := hr _ hlt
      exact ⟨q1, q2, q3⟩
section sm_R
variable {ML SL FL RM sc fc mc us nb : Nat} {xa xb dk dp df pl pd pc pf cd xfr xht ydp yfr yht yst yfa : Int32} {kx dx cx fx tx sp fp ff ft rt ag wk nk no nl cs cn cb fM fA fI fB fP fF vx bx md mo ky d1 d2 po bo fo nbd ck rA rN rD rC rO rX vY bY : Nat → Int32}
variable {uc : Nat} {cost rk : Nat → Nat}
theorem sm_asc_R {k m s : Nat} {kx' dx' cx' fx' tx' ky' d1' d2' : Nat → Int32} (hN : sm_Num ML SL FL RM sc fc mc nb md mo) (hC : sm_CL sc fc mc uc nb cost rk kx dx cx fx tx sp fp ff ft rt ag wk nk no nl ky d1 d2 po bo fo nbd) (hD : sm_DR kx dx cx fx tx sp nk no nl ky d1 d2 po nbd cs sc mc uc us nb RM dk dp df pl pd pc pf cd) (hlt : mc < ML) (hm : m < mc) (hs : s < sc) (hsp : sp s = -1) (hmt : ∀ l, sm_mx kx (1 + s) l ≠ 0 → sm_mx kx (9 + m) l = sm_mx kx (1 + s) l)
    (xo : ∀ r, r ≠ 9 + mc → sm_mx kx' r = sm_mx kx r ∧ sm_mx dx' r = sm_mx dx r ∧ sm_mx cx' r = sm_mx cx r ∧ sm_mx fx' r = sm_mx fx r ∧ sm_mx tx' r = sm_mx tx r)
    (yo : ∀ r, r ≠ 9 + mc → sm_mx ky' r = sm_mx ky r ∧ sm_mx d1' r = sm_mx d1 r ∧ sm_mx d2' r = sm_mx d2 r)
    (kxn : ∀ l, sm_mx kx' (9 + mc) l = sm_mx kx (1 + s) l ∨ sm_mx kx' (9 + mc) l = if sm_mx kx (1 + s) l = 0 then 0 else sm_mx kx (9 + m) l)
    (LN : sm_LR kx' dx' cx' ky' d1' d2' (9 + mc)) (TN : sm_Tr (fun _ => False) (fun _ => False) (sm_mx kx' (9 + mc)) (sm_mx dx' (9 + mc)) (sm_mx cx' (9 + mc))) :
    i_Rel k (xa, xb, nI ML, nI SL, nI FL, nI RM, nI sc, nI fc, nI (mc + 1), nI us, dk, dp, df, pl, pd, pc, pf, cd, xfr, xht, kx', dx', cx', fx', tx', sp, fp, ff, ft, upd rt mc (rt m), upd ag mc (-1), wk, nk, no, nl, cs, cn, cb, fM, fA, fI, fB, fP, fF, vx, bx) (nI RM, nI nb, nI us, dk, pl, pd, pc, ydp, yfr, yht, yst, yfa, upd md 1 (nI (mc + 1)), mo, ky', d1', d2', upd po (9 + mc) (-1), upd bo (9 + mc) (-1), upd fo (9 + mc) (nI (9 + m)), nk, no, nbd, nl, cn, cb, ck, rA, rN, rD, rC, rO, rX, vY, bY) := by
  obtain ⟨⟨n1, n2, n3, n4, n5, n6, n7⟩, ⟨hsc, hmc, hfc, hnb⟩, ⟨m0, m1, m2⟩, hmo⟩ := hN
  have lz : ∀ r, sm_lz sc fc mc r → r ≠ 9 + mc := by intro r hr; unfold sm_lz at hr; omega
  have lx : ∀ r, sm_lx sc fc mc r → r ≠ 9 + mc := by intro r hr; unfold sm_lx at hr; omega
  have ly : ∀ r, sm_ly sc fc mc nb r → r ≠ 9 + mc := by intro r hr; unfold sm_ly at hr; omega
  have E : sm_Eq sc fc mc uc nb cost rk cost rk kx dx cx fx tx sp fp ff ft rt ag wk nk no nl ky d1 d2 po bo fo nbd kx' dx' cx' fx' tx' sp fp ff ft (upd rt mc (rt m)) (upd ag mc (-1)) wk nk no nl ky' d1' d2' (upd po (9 + mc) (-1)) (upd bo (9 + mc) (-1)) (upd fo (9 + mc) (nI (9 + m))) nbd :=
    ⟨fun r hr => xo r (lx r hr), fun r hr => yo r (ly r hr), fun _ _ => rfl, fun _ _ => ⟨rfl, rfl, rfl⟩, fun q hq => ⟨pk_un (by omega), pk_un (by omega)⟩, fun _ _ => ⟨rfl, rfl, rfl⟩, fun _ _ => ⟨rfl, rfl, rfl, rfl⟩, fun r hr => ⟨pk_un (lz r hr), pk_un (lz r hr), pk_un (lz r hr)⟩⟩
  obtain ⟨_, _, r, hr, e1, e2, h3, _, _⟩ := hC.2.2.2.1 m hm
  have NM : sm_Mod kx' dx' cx' fx' tx' ky' d1' d2' (upd bo (9 + mc) (-1)) (upd fo (9 + mc) (nI (9 + m))) (upd rt mc (rt m)) (upd ag mc (-1)) wk nk no nl nbd cost rk uc nb mc := by
    refine ⟨LN, TN, r, by omega, pk_us.trans e1, (pk_un (by omega)).trans e2, fun l hl => ?_, fun _ => ⟨pk_us, m, hm, pk_us, (pk_un (by omega)).trans e1⟩, fun z => by omega⟩
    rw [(xo (31 + r) (by omega)).1]
    refine h3 l ?_
    rcases kxn l with e | e
    · rw [e] at hl
      rw [hmt l (by rw [hl]; decide)]; exact hl
    · rw [e] at hl
      by_cases z : sm_mx kx (1 + s) l = 0
      · rw [if_pos z] at hl; exact absurd hl (by decide)
      · rw [if_neg z] at hl; exact hl
  refine sm_in (uc := uc) (cost := cost) (rk := rk) ⟨⟨n1, n2, n3, n4, n5, n6, n7⟩, ⟨hsc, by omega, hfc, by omega⟩, ⟨(pk_un (by decide)).trans m0, pk_us, (pk_un (by decide)).trans m2⟩, hmo⟩ ?_ ?_
  · exact sm_CL_add E (by omega) (by omega) (by omega) (by omega) (Nat.le_refl _) (Nat.le_refl _) (fun k a b => absurd a (by omega)) hC (fun i hi => hC.1 i (by omega)) hC.2.1 NM
  · exact sm_DR_mod (by omega) (fun r hr => xo r (by omega)) (yo 0 (by omega)) (pk_un (by omega)) hD
end sm_R
end
section
section sm_X
variable {xa xb xml xsl xfl xrm xsc xfc xmc xus dk dp df pl pd pc pf cd xfr xht : Int32} {kx dx cx fx tx sp fp ff ft rt ag wk nk no nl cs cn cb fM fA fI fB fP fF vx bx : Nat → Int32}
theorem sm_xms {post : Int32 → Prop} {m : Nat} (h : post (nI (9 + m))) : wpX_moduleSlot post (xa, xb, xml, xsl, xfl, xrm, xsc, xfc, xmc, xus, dk, dp, df, pl, pd, pc, pf, cd, xfr, xht, kx, dx, cx, fx, tx, sp, fp, ff, ft, rt, ag, wk, nk, no, nl, cs, cn, cb, fM, fA, fI, fB, fP, fF, vx, bx) (nI m) := by
  unfold wpX_moduleSlot; dsimp only; rw [sm_l9]; exact h
theorem sm_xss {post : Int32 → Prop} {m : Nat} (h : post (nI (1 + m))) : wpX_signatureSlot post (xa, xb, xml, xsl, xfl, xrm, xsc, xfc, xmc, xus, dk, dp, df, pl, pd, pc, pf, cd, xfr, xht, kx, dx, cx, fx, tx, sp, fp, ff, ft, rt, ag, wk, nk, no, nl, cs, cn, cb, fM, fA, fI, fB, fP, fF, vx, bx) (nI m) := by
  unfold wpX_signatureSlot; dsimp only; rw [sm_l1]; exact h
theorem sm_xfsl {post : Int32 → Prop} {m : Nat} (h : post (nI (25 + m))) : wpX_functorSlot post (xa, xb, xml, xsl, xfl, xrm, xsc, xfc, xmc, xus, dk, dp, df, pl, pd, pc, pf, cd, xfr, xht, kx, dx, cx, fx, tx, sp, fp, ff, ft, rt, ag, wk, nk, no, nl, cs, cn, cb, fM, fA, fI, fB, fP, fF, vx, bx) (nI m) := by
  unfold wpX_functorSlot; dsimp only; rw [sm_l25]; exact h
theorem sm_xbs {post : Int32 → Prop} {m : Nat} (h : post (nI (47 + m))) : wpX_bodySlot post (xa, xb, xml, xsl, xfl, xrm, xsc, xfc, xmc, xus, dk, dp, df, pl, pd, pc, pf, cd, xfr, xht, kx, dx, cx, fx, tx, sp, fp, ff, ft, rt, ag, wk, nk, no, nl, cs, cn, cb, fM, fA, fI, fB, fP, fF, vx, bx) (nI m) := by
  unfold wpX_bodySlot; dsimp only; rw [sm_l47]; exact h
theorem sm_xis {post : Int32 → Prop} {m : Nat} (h : post (nI (31 + m))) : wpX_innerSlot post (xa, xb, xml, xsl, xfl, xrm, xsc, xfc, xmc, xus, dk, dp, df, pl, pd, pc, pf, cd, xfr, xht, kx, dx, cx, fx, tx, sp, fp, ff, ft, rt, ag, wk, nk, no, nl, cs, cn, cb, fM, fA, fI, fB, fP, fF, vx, bx) (nI m) := by
  unfold wpX_innerSlot; dsimp only; rw [sm_l31]; exact h
theorem sm_x117 {post : Int32 → SX → Prop} {m mc : Nat} (hm : m < 16) (hmc : mc < 16) (h : post (nI mc) (xa, xb, xml, xsl, xfl, xrm, xsc, xfc, nI (mc + 1), xus, dk, dp, df, pl, pd, pc, pf, cd, xfr, xht, kx, dx, cx, fx, tx, sp, fp, ff, ft, upd rt mc (rt m), upd ag mc (-1), wk, nk, no, nl, cs, cn, cb, fM, fA, fI, fB, fP, fF, vx, bx)) : wX_ascribe_117 post (nI m) (nI mc) xa xb xml xsl xfl xrm xsc xfc xmc xus dk dp df pl pd pc pf cd xfr xht kx dx cx fx tx sp fp ff ft rt ag wk nk no nl cs cn cb fM fA fI fB fP fF vx bx := by
  have im : vp_in (nI m) 16 := vp_in_nI hm (by omega)
  have ic : vp_in (nI mc) 16 := vp_in_nI hmc (by omega)
  have cm : (nI m).toNatClampNeg = m := nI_clamp (by omega)
  have cc : (nI mc).toNatClampNeg = mc := nI_clamp (by omega)
  exact ⟨im, ic, nm_r (e' := upd rt mc (rt m)) (by rw [cm, cc]) ⟨ic, nm_r (e' := upd ag mc (-1)) (by rw [cc]) (nm_r (nI_1 mc) h)⟩⟩
end sm_X
theorem i_vc_ascribe {k : Nat} {u : SX} {v : SY} (I : i_Rel k u v) (hk : k + 5 ≤ 2564) (v1 : Int32) (v2 : Int32) (v3 : Int32) : wpX_ascribe (fun r u' => wpY_ascribe (fun r' v' => r' = r ∧ i_Rel (k + 5) u' v') v v1 v2 v3) u v1 v2 v3 := by
  refine sm_el (P := fun u v => i_Rel (k + 5) u v → wpX_ascribe (fun r u' => wpY_ascribe (fun r' v' => r' = r ∧ i_Rel (k + 5) u' v') v v1 v2 v3) u v1 v2 v3) ?_ I (i_up I)
  intro uc cost rk ML SL FL RM sc fc mc us nb xa xb dk dp df pl pd pc pf cd xfr xht ydp yfr yht yst yfa kx dx cx fx tx sp fp ff ft rt ag wk nk no nl cs cn cb fM fA fI fB fP fF vx bx md mo ky d1 d2 po bo fo nbd ck rA rN rD rC rO rX vY bY hN hC hD J
  have hN' := hN
  obtain ⟨⟨n1, n2, n3, n4, n5, n6, n7⟩, ⟨hsc, hmc, hfc, hnb⟩, ⟨m0, m1, m2⟩, ⟨o0, o1, o2⟩⟩ := hN'
  have Sg := hC.2.2.1
  have Md := hC.2.2.2.1
  have Y0 : ∀ q : Int32 → SY → Prop, (∀ r1 r2 : Int32, ((∀ j, j < mc → v1 ≠ nI j) ∧ r1 = -1 ∨ ∃ m, m < mc ∧ v1 = nI m ∧ r1 = nI (9 + m)) → ((∀ j, j < sc → v2 ≠ nI j) ∧ r2 = -1 ∨ ∃ s, s < sc ∧ v2 = nI s ∧ r2 = nI (1 + s)) →
      ((r1 < 0 → q (-1) (nI RM, nI nb, nI us, dk, pl, pd, pc, ydp, yfr, yht, yst, yfa, md, mo, ky, d1, d2, po, bo, fo, nk, no, nbd, nl, cn, cb, ck, rA, rN, rD, rC, rO, rX, vY, bY)) ∧ (¬ r1 < 0 → ((r2 < 0 → q (-1) (nI RM, nI nb, nI us, dk, pl, pd, pc, ydp, yfr, yht, yst, yfa, md, mo, ky, d1, d2, po, bo, fo, nk, no, nbd, nl, cn, cb, ck, rA, rN, rD, rC, rO, rX, vY, bY)) ∧ (¬ r2 < 0 → (vp_in r2 53 ∧ ((po r2.toNatClampNeg = -1 → ((md 1 < mo 1 → (wpY_match (fun r_78 => (((r_78 = 0 → (((v3 = 0 → (wY_ascribe_88 q r1 r2 r1 1 (nI RM) (nI nb) (nI us) dk pl pd pc ydp yfr yht yst yfa md mo ky d1 d2 po bo fo nk no nbd nl cn cb ck rA rN rD rC rO rX vY bY)) ∧ (¬ v3 = 0 → (wY_ascribe_88 q r1 r2 r2 1 (nI RM) (nI nb) (nI us) dk pl pd pc ydp yfr yht yst yfa md mo ky d1 d2 po bo fo nk no nbd nl cn cb ck rA rN rD rC rO rX vY bY))))) ∧ (¬ r_78 = 0 → (q r_78 (nI RM, nI nb, nI us, dk, pl, pd, pc, ydp, yfr, yht, yst, yfa, md, mo, ky, d1, d2, po, bo, fo, nk, no, nbd, nl, cn, cb, ck, rA, rN, rD, rC, rO, rX, vY, bY)))))) (nI RM, nI nb, nI us, dk, pl, pd, pc, ydp, yfr, yht, yst, yfa, md, mo, ky, d1, d2, po, bo, fo, nk, no, nbd, nl, cn, cb, ck, rA, rN, rD, rC, rO, rX, vY, bY) r1 r2)) ∧ (¬ md 1 < mo 1 → q (-3) (nI RM, nI nb, nI us, dk, pl, pd, pc, ydp, yfr, yht, yst, yfa, md, mo, ky, d1, d2, po, bo, fo, nk, no, nbd, nl, cn, cb, ck, rA, rN, rD, rC, rO, rX, vY, bY)))) ∧ (¬ po r2.toNatClampNeg = -1 → q (-1) (nI RM, nI nb, nI us, dk, pl, pd, pc, ydp, yfr, yht, yst, yfa, md, mo, ky, d1, d2, po, bo, fo, nk, no, nbd, nl, cn, cb, ck, rA, rN, rD, rC, rO, rX, vY, bY))))))))) → wpY_ascribe q (nI RM, nI nb, nI us, dk, pl, pd, pc, ydp, yfr, yht, yst, yfa, md, mo, ky, d1, d2, po, bo, fo, nk, no, nbd, nl, cn, cb, ck, rA, rN, rD, rC, rO, rX, vY, bY) v1 v2 v3 := by
    intro q h
    unfold wpY_ascribe
    refine sm_yf1 (by omega) m1 (fun hn => ?_) (fun m hm em => ?_)
    · exact sm_yf0 (by omega) m0 (fun hn2 => h _ _ (Or.inl ⟨hn, rfl⟩) (Or.inl ⟨hn2, rfl⟩)) (fun s hs es => h _ _ (Or.inl ⟨hn, rfl⟩) (Or.inr ⟨s, hs, es, rfl⟩))
    · exact sm_yf0 (by omega) m0 (fun hn2 => h _ _ (Or.inr ⟨m, hm, em, rfl⟩) (Or.inl ⟨hn2, rfl⟩)) (fun s hs es => h _ _ (Or.inr ⟨m, hm, em, rfl⟩) (Or.inr ⟨s, hs, es, rfl⟩))
  unfold wpX_ascribe
  refine sm_xex (by omega) (fun hn => br_t rfl (Y0 _ fun r1 r2 h1 h2 => ?_)) (fun m hm em => br_f (by decide) ?_)
  · rcases h1 with ⟨_, rfl⟩ | ⟨m, hm, em, _⟩
    · exact br_t sm_n1lt ⟨rfl, J⟩
    · exact absurd em (hn m hm)
  · subst em
    refine sm_xind (by omega) (fun hn => br_t rfl (Y0 _ fun r1 r2 h1 h2 => ?_)) (fun s hs es hsp => br_f (by decide) ?_)
    · rcases h1 with ⟨w, _⟩ | ⟨m', hm', em', rfl⟩
      · exact absurd rfl (w m hm)
      · refine br_f (nI_pos (by omega)) ?_
        rcases h2 with ⟨_, rfl⟩ | ⟨s, hs, es, rfl⟩
        · exact br_t sm_n1lt ⟨rfl, J⟩
        · refine br_f (nI_pos (by omega)) ⟨vp_in_nI (by omega) (by omega), ?_⟩
          rw [nI_clamp (by omega), (Sg s hs).2.1]
          exact br_f (hn s hs es) ⟨rfl, J⟩
    · subst es
      have Y1 : ∀ q : Int32 → SY → Prop, ((mc < ML → (wpY_match (fun r_78 => (((r_78 = 0 → (((v3 = 0 → (wY_ascribe_88 q (nI (9 + m)) (nI (1 + s)) (nI (9 + m)) 1 (nI RM) (nI nb) (nI us) dk pl pd pc ydp yfr yht yst yfa md mo ky d1 d2 po bo fo nk no nbd nl cn cb ck rA rN rD rC rO rX vY bY)) ∧ (¬ v3 = 0 → (wY_ascribe_88 q (nI (9 + m)) (nI (1 + s)) (nI (1 + s)) 1 (nI RM) (nI nb) (nI us) dk pl pd pc ydp yfr yht yst yfa md mo ky d1 d2 po bo fo nk no nbd nl cn cb ck rA rN rD rC rO rX vY bY))))) ∧ (¬ r_78 = 0 → (q r_78 (nI RM, nI nb, nI us, dk, pl, pd, pc, ydp, yfr, yht, yst, yfa, md, mo, ky, d1, d2, po, bo, fo, nk, no, nbd, nl, cn, cb, ck, rA, rN, rD, rC, rO, rX, vY, bY)))))) (nI RM, nI nb, nI us, dk, pl, pd, pc, ydp, yfr, yht, yst, yfa, md, mo, ky, d1, d2, po, bo, fo, nk, no, nbd, nl, cn, cb, ck, rA, rN, rD, rC, rO, rX, vY, bY) (nI (9 + m)) (nI (1 + s)))) ∧ (¬ mc < ML → q (-3) (nI RM, nI nb, nI us, dk, pl, pd, pc, ydp, yfr, yht, yst, yfa, md, mo, ky, d1, d2, po, bo, fo, nk, no, nbd, nl, cn, cb, ck, rA, rN, rD, rC, rO, rX, vY, bY))) → wpY_ascribe q (nI RM, nI nb, nI us, dk, pl, pd, pc, ydp, yfr, yht, yst, yfa, md, mo, ky, d1, d2, po, bo, fo, nk, no, nbd, nl, cn, cb, ck, rA, rN, rD, rC, rO, rX, vY, bY) (nI m) (nI s) v3 := by
        intro q h
        refine Y0 q fun r1 r2 h1 h2 => ?_
        rcases h1 with ⟨w, _⟩ | ⟨m', hm', em', rfl⟩
        · exact absurd rfl (w m hm)
        · rcases h2 with ⟨w, _⟩ | ⟨s', hs', es', rfl⟩
          · exact absurd rfl (w s hs)
          · have := sm_inj em' (by omega) (by omega)
            subst this
            have := sm_inj es' (by omega) (by omega)
            subst this
            refine br_f (nI_pos (by omega)) (br_f (nI_pos (by omega)) ⟨vp_in_nI (by omega) (by omega), br_t ?_ ?_⟩)
            · rw [nI_clamp (by omega), (Sg s hs).2.1]; exact hsp
            · rw [m1, o1]
              exact br_c (fun z => h.1 ((nI_ltI (by omega) (by omega)).mp z)) (fun z => h.2 fun w => z (nI_lt w (by omega)))
      by_cases hlt : mc < ML
      · refine br_t (nI_lt hlt (by omega)) (sm_xms ?_)
        obtain ⟨q1, q2, q3, q4⟩ := Sg s hs
        obtain ⟨M1, M2, _⟩ := Md m hm
        obtain ⟨r, hX, hY, hr⟩ := sm_match (xa := xa) (xb := xb) (xml := nI ML) (xsl := nI SL) (xfl := nI FL) (xrm := nI RM) (xsc := nI sc) (xfc := nI fc) (xmc := nI mc) (xus := nI us) (dk := dk) (dp := dp) (df := df) (pl := pl) (pd := pd) (pc := pc) (pf := pf) (cd := cd) (xfr := xfr) (xht := xht) (kx := kx) (dx := dx) (cx := cx) (fx := fx) (tx := tx) (sp := sp) (fp := fp) (ff := ff) (ft := ft) (rt := rt) (ag := ag) (wk := wk) (nk := nk) (no := no) (nl := nl) (cs := cs) (cn := cn) (cb := cb) (fM := fM) (fA := fA) (fI := fI) (fB := fB) (fP := fP) (fF := fF) (vx := vx) (bx := bx) (yrm := nI RM) (ynb := nI nb) (yus := nI us) (ydk := dk) (ypl := pl) (ypd := pd) (ypc := pc) (ydp := ydp) (yfr := yfr) (yht := yht) (yst := yst) (yfa := yfa) (md := md) (mo := mo) (ky := ky) (d1 := d1) (d2 := d2) (po := po) (bo := bo) (fo := fo) (ynk := nk) (yno := no) (nbd := nbd) (ynl := nl) (ycn := cn) (ycb := cb) (ck := ck) (rA := rA) (rN := rN) (rD := rD) (rC := rC) (rO := rO) (rX := rX) (vY := vY) (bY := bY) (f := 9 + m) (s := s) (by omega) (by omega) M1 q1 (fun l hl => ⟨(q4 l hl).1.1, (q4 l hl).2.1⟩)
        refine hX _ (br_c (fun er => sm_xms (sm_xss ?_)) (fun er => Y1 _ (br_t hlt (hY _ (br_f er ⟨rfl, J⟩)))))
        have hmt := hr er
        have fp' : upd fo (9 + mc) (nI (9 + m)) (9 + mc) = nI (9 + m) := pk_us
        have T8 : ∀ l, sm_mx kx (1 + s) l ≠ 0 → (∀ j, j < 8 → sm_mx dx (1 + s) l ≠ nI (8 + j)) ∧ (∀ j, j < 8 → sm_mx cx (1 + s) l ≠ nI (8 + j)) := by
          intro l hl
          refine ⟨fun j hj e => ?_, fun j hj e => ?_⟩
          · obtain ⟨p, hp, ep, _⟩ := (q4 l hl).1.2 j hj e
            rw [hsp] at ep
            exact sm_ne1 (by omega) ep.symm
          · obtain ⟨p, hp, ep, _⟩ := (q4 l hl).2.2 j hj e
            rw [hsp] at ep
            exact sm_ne1 (by omega) ep.symm
        refine br_c (fun e3 => ?_) (fun e3 => ?_)
        · refine sm_xcopy (by omega) (by omega) (by omega) (sm_xnar (by omega) (by omega) (by omega) (sm_x117 (by omega) (by omega) (Y1 _ (br_t hlt (hY _ (br_t er (br_t e3 ?_)))))))
          unfold wY_ascribe_88
          refine sm_ymk1 (by omega) (by omega) (by omega) m1 (Or.inr ⟨9 + m, by omega, rfl, by omega⟩) (sm_ynar (by omega) (by omega) (by omega) ⟨rfl, ?_⟩)
          refine sm_asc_R hN hC hD hlt hm hs hsp hmt (fun r hr' => ⟨by rw [sm_nro hr', sm_cpo hr'], sm_cpo hr', sm_cpo hr', sm_cpo hr', sm_cpo hr'⟩) (fun r hr' => ⟨by rw [sm_nro hr', sm_cpo hr'], sm_cmo (Nat.le_refl _) hr', sm_cmo (Nat.le_refl _) hr'⟩) (fun l => Or.inr ?_) (fun l => ?_) (fun l hl => ?_)
          · rw [sm_nrt, sm_cpo (by omega), sm_cpt]
          · have a1 : ∀ A : Nat → Int32, sm_mx (sm_cp A (9 + m) (9 + mc) 8) (1 + s) = sm_mx A (1 + s) := fun A => sm_cpo (by omega)
            rw [sm_nrt, sm_nrt, a1, a1, sm_cpt, sm_cpt, sm_cpt, sm_cpt, sm_cmt, sm_cmt, (q1 l).1, (M1 l).1]
            refine ⟨rfl, ?_⟩
            by_cases z : sm_mx kx (1 + s) l = 0
            · rw [if_pos z]; exact Or.inl rfl
            · rw [if_neg z]
              rcases (M1 l).2 with e | ⟨x1, x2, x3, x4⟩ | ⟨x1, x2, x3⟩
              · exact Or.inl e
              · have nz : sm_mx kx (9 + m) l ≠ 0 := by rw [x1]; decide
                refine Or.inr (Or.inl ⟨x1, x2, ?_, ?_⟩)
                · rw [x3]; exact sm_sb_id (M2 l nz).1
                · rw [x4]; exact sm_sb_neg (by decide)
              · have nz : sm_mx kx (9 + m) l ≠ 0 := by rw [x1]; decide
                refine Or.inr (Or.inr ⟨x1, ?_, ?_⟩)
                · rw [x2]; exact sm_sb_id (M2 l nz).1
                · rw [x3]; exact sm_sb_id (M2 l nz).2
          · rw [sm_nrt, sm_cpo (by omega), sm_cpt] at hl
            rw [sm_cpt, sm_cpt]
            by_cases z : sm_mx kx (1 + s) l = 0
            · rw [if_pos z] at hl; exact absurd rfl hl
            · rw [if_neg z] at hl; exact M2 l hl
        · refine sm_xtf (by omega) (by omega) (by omega) (Or.inl rfl) (sm_x117 (by omega) (by omega) (Y1 _ (br_t hlt (hY _ (br_t er (br_f e3 ?_))))))
          unfold wY_ascribe_88
          refine sm_ymk1 (by omega) (by omega) (by omega) m1 (Or.inr ⟨9 + m, by omega, rfl, by omega⟩) (sm_ynar (by omega) (by omega) (by omega) ⟨rfl, ?_⟩)
          refine sm_asc_R hN hC hD hlt hm hs hsp hmt (fun r hr' => ⟨sm_cpo hr', by rw [sm_mpo (Nat.le_refl _) hr', sm_cpo hr'], by rw [sm_mpo (Nat.le_refl _) hr', sm_cpo hr'], sm_cpo hr', sm_cpo hr'⟩) (fun r hr' => ⟨by rw [sm_nro hr', sm_cpo hr'], sm_cmo (Nat.le_refl _) hr', sm_cmo (Nat.le_refl _) hr'⟩) (fun l => Or.inl ?_) (fun l => ?_) (fun l hl => ?_)
          · rw [sm_cpt]
          · rw [sm_nrt, sm_cpo (by omega), sm_cpt, sm_cpt, sm_mpt, sm_mpt, sm_cpt, sm_cpt, sm_cmt, sm_cmt, (q1 l).1]
            refine ⟨by split <;> simp_all, ?_⟩
            by_cases z : sm_mx kx (1 + s) l = 0
            · exact Or.inl z
            · obtain ⟨t1, t2⟩ := T8 l z
              rcases (q1 l).2 with e | ⟨x1, x2, x3, x4⟩ | ⟨x1, x2, x3⟩
              · exact Or.inl e
              · refine Or.inr (Or.inl ⟨x1, by rw [x2], ?_, ?_⟩)
                · rw [x3]; exact (sm_trsb2 (by omega) t1).symm
                · rw [x4]; exact sm_sb_neg (by decide)
              · refine Or.inr (Or.inr ⟨x1, ?_, ?_⟩)
                · rw [x2]; exact (sm_trsb2 (by omega) t1).symm
                · rw [x3]; exact (sm_trsb2 (by omega) t2).symm
          · rw [sm_cpt] at hl
            rw [sm_mpt, sm_mpt, sm_cpt, sm_cpt]
            obtain ⟨t1, t2⟩ := T8 l hl
            exact ⟨sm_tr_rng (by omega) (fun j hj e => absurd e (t1 j hj)), sm_tr_rng (by omega) (fun j hj e => absurd e (t2 j hj))⟩
      · exact br_f (nI_nlt (by omega) (by omega)) (Y1 _ (br_f hlt ⟨rfl, J⟩))
end
section
section sm_R
variable {ML SL FL RM sc fc mc us nb : Nat} {xa xb dk dp df pl pd pc pf cd xfr xht ydp yfr yht yst yfa : Int32} {kx dx cx fx tx sp fp ff ft rt ag wk nk no nl cs cn cb fM fA fI fB fP fF vx bx md mo ky d1 d2 po bo fo nbd ck rA rN rD rC rO rX vY bY : Nat → Int32}
variable {uc : Nat} {cost rk : Nat → Nat}
theorem sm_app_R {k m f p b a0 c0 : Nat} {dr : Nat → Nat} {w : Nat → Int32} (hN : sm_Num ML SL FL RM sc fc mc nb md mo) (hC : sm_CL sc fc mc uc nb cost rk kx dx cx fx tx sp fp ff ft rt ag wk nk no nl ky d1 d2 po bo fo nbd) (hD : sm_DR kx dx cx fx tx sp nk no nl ky d1 d2 po nbd cs sc mc uc us nb RM dk dp df pl pd pc pf cd) (hlt : mc < ML) (hm : m < mc) (hf : f < fc) (hF : sm_F1 kx dx cx fx tx d1 d2 po bo fp ff ft nk no nl nbd uc sc mc nb f p b a0 c0 dr) (hmt : ∀ l, sm_mx kx (1 + p) l ≠ 0 → sm_mx kx (9 + m) l = sm_mx kx (1 + p) l)
    (hw1 : ∀ j, ¬ j / 8 = mc → w j = wk j) (hw2 : ∀ l, l < 8 → w (8 * mc + l) = nI (sm_cap (sm_ct nk no nl (upd rt mc (nI mc)) (upd ag mc (nI m)) cost mc a0 (c0 - a0) l))) :
    i_Rel k (xa, xb, nI ML, nI SL, nI FL, nI RM, nI sc, nI fc, nI (mc + 1), nI us, dk, dp, df, pl, pd, pc, pf, cd, xfr, xht, sm_ck kx (25 + f) (47 + f) mc, sm_dd dx dx (25 + f) (47 + f) mc (nI m), sm_dd cx dx (25 + f) (47 + f) mc (nI m), sm_ck fx (25 + f) (47 + f) mc, sm_ck tx (25 + f) (47 + f) mc, sp, fp, ff, ft, upd rt mc (nI mc), upd ag mc (nI m), w, nk, no, nl, cs, cn, cb, fM, fA, fI, fB, fP, fF, vx, bx)
      (nI RM, nI nb, nI us, dk, pl, pd, pc, ydp, yfr, yht, yst, yfa, upd md 1 (nI (mc + 1)), mo, sm_cp ky (25 + f) (9 + mc) 8, sm_cm d1 (sm_sb d1 (upd fo (9 + mc) (nI (9 + m))) (9 + mc)) (25 + f) (9 + mc) 8, sm_cm d2 (sm_sb d1 (upd fo (9 + mc) (nI (9 + m))) (9 + mc)) (25 + f) (9 + mc) 8, upd po (9 + mc) (-1), upd bo (9 + mc) (nI b), upd fo (9 + mc) (nI (9 + m)), nk, no, nbd, nl, cn, cb, ck, rA, rN, rD, rC, rO, rX, vY, bY) := by
  obtain ⟨⟨n1, n2, n3, n4, n5, n6, n7⟩, ⟨hsc, hmc, hfc, hnb⟩, ⟨m0, m1, m2⟩, hmo⟩ := hN
  have hDu := hD.1
  have lz : ∀ r, sm_lz sc fc mc r → r ≠ 9 + mc := by intro r hr; unfold sm_lz at hr; omega
  have lx : ∀ r, sm_lx sc fc mc r → r ≠ 9 + mc ∧ r ≠ 31 + mc := by intro r hr; unfold sm_lx at hr; omega
  have ly : ∀ r, sm_ly sc fc mc nb r → r ≠ 9 + mc := by intro r hr; unfold sm_ly at hr; omega
  have E : sm_Eq sc fc mc uc nb cost rk (sm_cs cost mc (sm_ct nk no nl (upd rt mc (nI mc)) (upd ag mc (nI m)) cost mc a0 (c0 - a0))) (sm_cs rk mc (fun l => 8 * mc + dr l)) kx dx cx fx tx sp fp ff ft rt ag wk nk no nl ky d1 d2 po bo fo nbd (sm_ck kx (25 + f) (47 + f) mc) (sm_dd dx dx (25 + f) (47 + f) mc (nI m)) (sm_dd cx dx (25 + f) (47 + f) mc (nI m)) (sm_ck fx (25 + f) (47 + f) mc) (sm_ck tx (25 + f) (47 + f) mc) sp fp ff ft (upd rt mc (nI mc)) (upd ag mc (nI m)) w nk no nl (sm_cp ky (25 + f) (9 + mc) 8) (sm_cm d1 (sm_sb d1 (upd fo (9 + mc) (nI (9 + m))) (9 + mc)) (25 + f) (9 + mc) 8) (sm_cm d2 (sm_sb d1 (upd fo (9 + mc) (nI (9 + m))) (9 + mc)) (25 + f) (9 + mc) 8) (upd po (9 + mc) (-1)) (upd bo (9 + mc) (nI b)) (upd fo (9 + mc) (nI (9 + m))) nbd :=
      ⟨fun r hr => ⟨sm_ck_o (lx r hr).1 (lx r hr).2, sm_dd_o (lx r hr).1 (lx r hr).2, sm_dd_o (lx r hr).1 (lx r hr).2, sm_ck_o (lx r hr).1 (lx r hr).2, sm_ck_o (lx r hr).1 (lx r hr).2⟩, fun r hr => ⟨sm_cpo (ly r hr), sm_cmo (Nat.le_refl _) (ly r hr), sm_cmo (Nat.le_refl _) (ly r hr)⟩, fun _ _ => rfl, fun _ _ => ⟨rfl, rfl, rfl⟩, fun q hq => ⟨pk_un (by omega), pk_un (by omega)⟩, fun i hi => ⟨hw1 i (by omega), sm_cs_o hi, sm_cs_o hi⟩, fun _ _ => ⟨rfl, rfl, rfl, rfl⟩, fun r hr => ⟨pk_un (lz r hr), pk_un (lz r hr), pk_un (lz r hr)⟩⟩
  obtain ⟨F1, F2, _⟩ := hC.2.2.2.2 f hf
  obtain ⟨⟨p1, p2, p3⟩, ⟨b1, b2⟩, ⟨r1, r2, r3, r4⟩, g1, g2, g3, g4, g5, g6⟩ := hF
  have hg : nI m = -1 ∨ ∃ m', m' < mc ∧ nI m = nI m' := Or.inr ⟨m, hm, rfl⟩
  have NM := sm_newroot (fr := 25 + f) (br := 47 + f) (b := b) (a0 := a0) (c0 := c0) (uc' := uc) (nb' := nb) (B := sm_NZ kx p) (P1 := sm_O2 kx p) (dr := dr) (g := nI m) (by omega) (by omega) (by omega) (by omega) E hC.2.2.2.1
      sm_ck_9 sm_dd_9 sm_dd_9 sm_cpt sm_cmt sm_cmt (sm_ck_31 (by omega)) (sm_dd_31 hg (by omega) (by omega)) (sm_dd_31 hg (by omega) (by omega)) (sm_ck_31 (by omega)) (sm_ck_31 (by omega))
      F1 g5 (fun j _ hj => ⟨m, hm, rfl, by rw [hmt j hj]; exact hj⟩) F2 (fun l hl => by
        rw [sm_cmo (Nat.le_refl _) (by omega), sm_cmo (Nat.le_refl _) (by omega)]
        exact g6 l hl)
      pk_us b1 (Or.inr ⟨m, hm, rfl, pk_us⟩) pk_us pk_us g4 (fun j hj => ⟨m, hm, rfl, by unfold sm_O2 at hj; rw [hmt j (by rw [hj]; decide)]; exact hj⟩) g3
      (fun l hl => sm_cs_n hl) rfl hw2 r4 g1
  refine sm_in (uc := uc) (cost := sm_cs cost mc (sm_ct nk no nl (upd rt mc (nI mc)) (upd ag mc (nI m)) cost mc a0 (c0 - a0))) (rk := sm_cs rk mc (fun l => 8 * mc + dr l)) ⟨⟨n1, n2, n3, n4, n5, n6, n7⟩, ⟨hsc, by omega, hfc, by omega⟩, ⟨(pk_un (by decide)).trans m0, pk_us, (pk_un (by decide)).trans m2⟩, hmo⟩ ?_ ?_
  · refine sm_CL_add E (by omega) (by omega) (by omega) (by omega) (Nat.le_refl _) (Nat.le_refl _) (fun k a b => absurd a (by omega)) hC (fun i hi => ?_) hC.2.1 NM
    rw [hw1 i (by omega)]; exact hC.1 i (by omega)
  · exact sm_DR_mod (by omega) (fun r hr => ⟨sm_ck_o (by omega) (by omega), sm_dd_o (by omega) (by omega), sm_dd_o (by omega) (by omega), sm_ck_o (by omega) (by omega), sm_ck_o (by omega) (by omega)⟩) ⟨sm_cpo (by omega), sm_cmo (Nat.le_refl _) (by omega), sm_cmo (Nat.le_refl _) (by omega)⟩ (pk_un (by omega)) hD
end sm_R
theorem i_vc_apply {k : Nat} {u : SX} {v : SY} (I : i_Rel k u v) (hk : k + 5 ≤ 2564) (v1 : Int32) (v2 : Int32) : wpX_apply (fun r u' => wpY_apply (fun r' v' => r' = r ∧ i_Rel (k + 5) u' v') v v1 v2) u v1 v2 := by
  refine sm_el (P := fun u v => i_Rel (k + 5) u v → wpX_apply (fun r u' => wpY_apply (fun r' v' => r' = r ∧ i_Rel (k + 5) u' v') v v1 v2) u v1 v2) ?_ I (i_up I)
  intro uc cost rk ML SL FL RM sc fc mc us nb xa xb dk dp df pl pd pc pf cd xfr xht ydp yfr yht yst yfa kx dx cx fx tx sp fp ff ft rt ag wk nk no nl cs cn cb fM fA fI fB fP fF vx bx md mo ky d1 d2 po bo fo nbd ck rA rN rD rC rO rX vY bY hN hC hD J
  have hN' := hN
  obtain ⟨⟨n1, n2, n3, n4, n5, n6, n7⟩, ⟨hsc, hmc, hfc, hnb⟩, ⟨m0, m1, m2⟩, ⟨o0, o1, o2⟩⟩ := hN'
  have hDu := hD.1
  have Sg := hC.2.2.1
  have Md := hC.2.2.2.1
  have Fn := hC.2.2.2.2
  unfold wpX_apply
  refine sm_xex (by omega) (fun hn => br_t rfl ?_) (fun f hf ef => br_f (by decide) ?_)
  · unfold wpY_apply
    refine sm_yf2 (by omega) m2 (fun _ => ?_) (fun f hf ef => absurd ef (hn f hf))
    exact sm_yf1 (by omega) m1 (fun _ => br_t sm_n1lt ⟨rfl, J⟩) (fun _ _ _ => br_t sm_n1lt ⟨rfl, J⟩)
  · subst ef
    refine sm_xex (by omega) (fun hn => br_t rfl ?_) (fun m hm em => br_f (by decide) ?_)
    · unfold wpY_apply
      refine sm_yf2 (by omega) m2 (fun hn2 => absurd rfl (hn2 f hf)) (fun f' hf' ef' => ?_)
      exact sm_yf1 (by omega) m1 (fun _ => br_f (nI_pos (by omega)) (br_f sm_n1le ⟨rfl, J⟩)) (fun j hj e => absurd e (hn j hj))
    · subst em
      obtain ⟨F1, F2, p, b, a0, c0, dr, hF⟩ := Fn f hf
      have hF' := hF
      obtain ⟨⟨p1, p2, p3⟩, ⟨b1, b2⟩, ⟨r1, r2, r3, r4⟩, g1, g2, g3, g4, g5, g6⟩ := hF'
      have i6 : vp_in (nI f) 6 := vp_in_nI (by omega) (by omega)
      have cf : (nI f).toNatClampNeg = f := nI_clamp (by omega)
      have i53 : vp_in (nI (25 + f)) 53 := vp_in_nI (by omega) (by omega)
      have Y1 : ∀ q : Int32 → SY → Prop, ((mc < ML → (wpY_match (fun r_77 => (((r_77 = 0 → (vp_in (nI (25 + f)) 53 ∧ wpY_make (fun r_115 u => match u with | (yrm, ynb, yus, ydk, ypl, ypd, ypc, ydp, yfr, yht, yst, yfa, md, mo, ky, d1, d2, po, bo, fo, ynk, yno, nbd, ynl, ycn, ycb, ck, rA, rN, rD, rC, rO, rX, vY, bY) => q r_115 (yrm, ynb, yus, ydk, ypl, ypd, ypc, ydp, yfr, yht, yst, yfa, md, mo, ky, d1, d2, po, bo, fo, ynk, yno, nbd, ynl, ycn, ycb, ck, rA, rN, rD, rC, rO, rX, vY, bY)) (nI RM, nI nb, nI us, dk, pl, pd, pc, ydp, yfr, yht, yst, yfa, md, mo, ky, d1, d2, po, bo, fo, nk, no, nbd, nl, cn, cb, ck, rA, rN, rD, rC, rO, rX, vY, bY) 1 (nI (25 + f)) (nI (9 + m)) (-1) (nI b))) ∧ (¬ r_77 = 0 → (q r_77 (nI RM, nI nb, nI us, dk, pl, pd, pc, ydp, yfr, yht, yst, yfa, md, mo, ky, d1, d2, po, bo, fo, nk, no, nbd, nl, cn, cb, ck, rA, rN, rD, rC, rO, rX, vY, bY)))))) (nI RM, nI nb, nI us, dk, pl, pd, pc, ydp, yfr, yht, yst, yfa, md, mo, ky, d1, d2, po, bo, fo, nk, no, nbd, nl, cn, cb, ck, rA, rN, rD, rC, rO, rX, vY, bY) (nI (9 + m)) (nI (1 + p)))) ∧ (¬ mc < ML → q (-3) (nI RM, nI nb, nI us, dk, pl, pd, pc, ydp, yfr, yht, yst, yfa, md, mo, ky, d1, d2, po, bo, fo, nk, no, nbd, nl, cn, cb, ck, rA, rN, rD, rC, rO, rX, vY, bY))) → wpY_apply q (nI RM, nI nb, nI us, dk, pl, pd, pc, ydp, yfr, yht, yst, yfa, md, mo, ky, d1, d2, po, bo, fo, nk, no, nbd, nl, cn, cb, ck, rA, rN, rD, rC, rO, rX, vY, bY) (nI f) (nI m) := by
        intro q h
        unfold wpY_apply
        refine sm_yf2 (by omega) m2 (fun hn2 => absurd rfl (hn2 f hf)) (fun f' hf' ef' => ?_)
        refine sm_yf1 (by omega) m1 (fun hn2 => absurd rfl (hn2 m hm)) (fun m' hm' em' => ?_)
        have := sm_inj em' (by omega) (by omega)
        subst this
        have := sm_inj ef' (by omega) (by omega)
        subst this
        refine br_f (nI_pos (by omega)) (br_t (nI_pos' (by omega)) ?_)
        rw [m1, o1, nI_clamp (show 25 + f < 2 ^ 31 by omega), p3, b2, sm_l1]
        refine br_c (fun z => ⟨i53, ?_⟩) (fun z => h.2 fun w => z (nI_lt w (by omega)))
        exact h.1 ((nI_ltI (by omega) (by omega)).mp z)
      by_cases hlt : mc < ML
      · refine br_t (nI_lt hlt (by omega)) (sm_xms ⟨i6, ?_⟩)
        rw [cf, p2]
        obtain ⟨q1, q2, q3, q4⟩ := Sg p p1
        obtain ⟨M1, M2, _⟩ := Md m hm
        obtain ⟨r, hX, hY, hr⟩ := sm_match (xa := xa) (xb := xb) (xml := nI ML) (xsl := nI SL) (xfl := nI FL) (xrm := nI RM) (xsc := nI sc) (xfc := nI fc) (xmc := nI mc) (xus := nI us) (dk := dk) (dp := dp) (df := df) (pl := pl) (pd := pd) (pc := pc) (pf := pf) (cd := cd) (xfr := xfr) (xht := xht) (kx := kx) (dx := dx) (cx := cx) (fx := fx) (tx := tx) (sp := sp) (fp := fp) (ff := ff) (ft := ft) (rt := rt) (ag := ag) (wk := wk) (nk := nk) (no := no) (nl := nl) (cs := cs) (cn := cn) (cb := cb) (fM := fM) (fA := fA) (fI := fI) (fB := fB) (fP := fP) (fF := fF) (vx := vx) (bx := bx) (yrm := nI RM) (ynb := nI nb) (yus := nI us) (ydk := dk) (ypl := pl) (ypd := pd) (ypc := pc) (ydp := ydp) (yfr := yfr) (yht := yht) (yst := yst) (yfa := yfa) (md := md) (mo := mo) (ky := ky) (d1 := d1) (d2 := d2) (po := po) (bo := bo) (fo := fo) (ynk := nk) (yno := no) (nbd := nbd) (ynl := nl) (ycn := cn) (ycb := cb) (ck := ck) (rA := rA) (rN := rN) (rD := rD) (rC := rC) (rO := rO) (rX := rX) (vY := vY) (bY := bY) (f := 9 + m) (s := p) (by omega) (by omega) M1 q1 (fun l hl => ⟨(q4 l hl).1.1, (q4 l hl).2.1⟩)
        refine hX _ (br_c (fun er => sm_xfsl (sm_xbs ⟨i6, i6, ?_⟩)) (fun er => Y1 _ (br_t hlt (hY _ (br_f er ⟨rfl, J⟩)))))
        rw [r1, r2]
        have hmt := hr er
        refine sm_xadd (cost := cost) (by omega) (by omega) (by omega) (by omega) (by omega) (Or.inr ⟨m, hm, rfl⟩) (by omega) r3 (fun l hl => hC.1 _ (by omega)) ?_ (fun w h1 h2 => ?_)
        · exact sm_meas_ok (uc' := uc) (b := b) (g := nI m) (by omega) (by omega) Md (fun q hq => pk_un (by omega)) pk_us pk_us g4 (fun j hj => ⟨m, hm, rfl, by unfold sm_O2 at hj; rw [hmt j (by rw [hj]; decide)]; exact hj⟩) r4 g1 g2
        · refine Y1 _ (br_t hlt (hY _ (br_t er ⟨i53, sm_ymk1 (by omega) (by omega) (by omega) m1 (Or.inr ⟨9 + m, by omega, rfl, by omega⟩) ⟨rfl, ?_⟩⟩)))
          exact sm_app_R hN hC hD hlt hm hf hF hmt h1 h2
      · exact br_f (nI_nlt (by omega) (by omega)) (Y1 _ (br_f hlt ⟨rfl, J⟩))
end
section
theorem sm_clamp (p : Int32) (lo hi : Nat) (h : lo ≤ hi) (hh : hi < 2 ^ 31) : ∃ n, lo ≤ n ∧ n ≤ hi ∧ (∀ (post : Int32 → Prop) (u : SX), post (nI n) → wpX_clamp post u p (nI lo) (nI hi)) ∧ (∀ (post : Int32 → Prop) (v : SY), post (nI n) → wpY_clamp post v p (nI lo) (nI hi)) := by
  by_cases h1 : nI lo ≤ p
  · have hp : ¬ p < 0 := fun z => absurd (Int32.lt_of_le_of_lt h1 z) (nI_pos (by omega))
    obtain ⟨j, hj, rfl⟩ := nI_of hp
    have hlo : lo ≤ j := (nI_leI (by omega) hj).mp h1
    by_cases h2 : j ≤ hi
    · have h2' : nI j ≤ nI hi := nI_le h2 hh
      exact ⟨j, hlo, h2, fun post u q => match u with | (xa, xb, xml, xsl, xfl, xrm, xsc, xfc, xmc, xus, dk, dp, df, pl, pd, pc, pf, cd, xfr, xht, kx, dx, cx, fx, tx, sp, fp, ff, ft, rt, ag, wk, nk, no, nl, cs, cn, cb, fM, fA, fI, fB, fP, fF, vx, bx) => br_t h1 (br_t h2' q), fun post v q => match v with | (yrm, ynb, yus, ydk, ypl, ypd, ypc, ydp, yfr, yht, yst, yfa, md, mo, ky, d1, d2, po, bo, fo, ynk, yno, nbd, ynl, ycn, ycb, ck, rA, rN, rD, rC, rO, rX, vY, bY) => br_t h1 (br_t h2' q)⟩
    · have h2' : ¬ nI j ≤ nI hi := nI_ge (by omega) hj
      exact ⟨hi, h, Nat.le_refl _, fun post u q => match u with | (xa, xb, xml, xsl, xfl, xrm, xsc, xfc, xmc, xus, dk, dp, df, pl, pd, pc, pf, cd, xfr, xht, kx, dx, cx, fx, tx, sp, fp, ff, ft, rt, ag, wk, nk, no, nl, cs, cn, cb, fM, fA, fI, fB, fP, fF, vx, bx) => br_t h1 (br_f h2' q), fun post v q => match v with | (yrm, ynb, yus, ydk, ypl, ypd, ypc, ydp, yfr, yht, yst, yfa, md, mo, ky, d1, d2, po, bo, fo, ynk, yno, nbd, ynl, ycn, ycb, ck, rA, rN, rD, rC, rO, rX, vY, bY) => br_t h1 (br_f h2' q)⟩
  · exact ⟨lo, Nat.le_refl _, h, fun post u q => match u with | (xa, xb, xml, xsl, xfl, xrm, xsc, xfc, xmc, xus, dk, dp, df, pl, pd, pc, pf, cd, xfr, xht, kx, dx, cx, fx, tx, sp, fp, ff, ft, rt, ag, wk, nk, no, nl, cs, cn, cb, fM, fA, fI, fB, fP, fF, vx, bx) => br_f h1 q, fun post v q => match v with | (yrm, ynb, yus, ydk, ypl, ypd, ypc, ydp, yfr, yht, yst, yfa, md, mo, ky, d1, d2, po, bo, fo, ynk, yno, nbd, ynl, ycn, ycb, ck, rA, rN, rD, rC, rO, rX, vY, bY) => br_f h1 q⟩
def sm_cb (i : Nat) : Nat → Int32 := fun j => if j < i then -1 else 0
theorem sm_cb0 : sm_cb 0 = fun _ => 0 := by
  funext j
  exact if_neg (by omega)
theorem sm_cbs {i : Nat} : upd (sm_cb i) i (-1) = sm_cb (i + 1) := by
  funext j
  unfold upd sm_cb
  by_cases h1 : j = i
  · rw [if_pos h1, if_pos (by omega)]
  · rw [if_neg h1]
    by_cases h2 : j < i
    · rw [if_pos h2, if_pos (by omega)]
    · rw [if_neg h2, if_neg (by omega)]
section sm_X
variable {xa xb xml xsl xfl xrm xsc xfc xmc xus dk dp df pl pd pc pf cd xfr xht : Int32} {kx dx cx fx tx sp fp ff ft rt ag wk nk no nl cs cn cb fM fA fI fB fP fF vx bx : Nat → Int32}
theorem sm_xil {post : SX → Prop} (h : post (xa, xb, xml, xsl, xfl, xrm, xsc, xfc, xmc, xus, dk, dp, df, pl, pd, pc, pf, cd, xfr, xht, kx, dx, cx, fx, tx, sp, fp, ff, ft, rt, ag, wk, nk, no, nl, cs, cn, sm_cb 8, fM, fA, fI, fB, fP, fF, vx, bx)) : ∃ n : Nat, wX_init_307 post xa xb xml xsl xfl xrm xsc xfc xmc xus dk dp df pl pd pc pf cd xfr xht n 0 kx dx cx fx tx sp fp ff ft rt ag wk nk no nl cs cn (fun _ => 0) fM fA fI fB fP fF vx bx := by
  have key : ∀ d i, i + d = 8 → wX_init_307 post xa xb xml xsl xfl xrm xsc xfc xmc xus dk dp df pl pd pc pf cd xfr xht (d + 1) (nI i) kx dx cx fx tx sp fp ff ft rt ag wk nk no nl cs cn (sm_cb i) fM fA fI fB fP fF vx bx := by
    intro d
    induction d with
    | zero =>
      intro i hi
      have e : i = 8 := by omega
      subst e
      exact br_t (by decide) h
    | succ d ih =>
      intro i hi
      refine br_f (sm_n8 (by omega)) ⟨vp_in_nI (by omega) (by omega), nm_r (e' := sm_cb (i + 1)) ?_ (nm_r (nI_1 i) (ih (i + 1) (by omega)))⟩
      rw [nI_clamp (by omega)]
      exact sm_cbs
  have K := key 8 0 rfl
  rw [sm_cb0, nI_0] at K
  exact ⟨9, K⟩
end sm_X
section sm_Y
variable {yrm ynb yus ydk ypl ypd ypc ydp yfr yht yst yfa : Int32} {md mo ky d1 d2 po bo fo ynk yno nbd ynl ycn ycb ck rA rN rD rC rO rX vY bY : Nat → Int32}
theorem sm_yil {post : SY → Prop} (h : post (yrm, ynb, yus, ydk, ypl, ypd, ypc, ydp, yfr, yht, yst, yfa, md, mo, ky, d1, d2, po, bo, fo, ynk, yno, nbd, ynl, ycn, sm_cb 8, ck, rA, rN, rD, rC, rO, rX, vY, bY)) : ∃ n : Nat, wY_init_270 post yrm ynb yus ydk ypl ypd ypc ydp yfr yht yst yfa n 0 md mo ky d1 d2 po bo fo ynk yno nbd ynl ycn (fun _ => 0) ck rA rN rD rC rO rX vY bY := by
  have key : ∀ d i, i + d = 8 → wY_init_270 post yrm ynb yus ydk ypl ypd ypc ydp yfr yht yst yfa (d + 1) (nI i) md mo ky d1 d2 po bo fo ynk yno nbd ynl ycn (sm_cb i) ck rA rN rD rC rO rX vY bY := by
    intro d
    induction d with
    | zero =>
      intro i hi
      have e : i = 8 := by omega
      subst e
      exact br_t (by decide) h
    | succ d ih =>
      intro i hi
      refine br_f (sm_n8 (by omega)) ⟨vp_in_nI (by omega) (by omega), nm_r (e' := sm_cb (i + 1)) ?_ (nm_r (nI_1 i) (ih (i + 1) (by omega)))⟩
      rw [nI_clamp (by omega)]
      exact sm_cbs
  have K := key 8 0 rfl
  rw [sm_cb0, nI_0] at K
  exact ⟨9, K⟩
end sm_Y
theorem sm_rel0 {k ML SL FL RM : Nat} {mo : Nat → Int32} (hN : sm_Num ML SL FL RM 0 0 0 0 (fun _ => 0) mo) : i_Rel k (1, 2, nI ML, nI SL, nI FL, nI RM, 0, 0, 0, 0, -1, -1, 0, -1, 0, 0, 0, 0, 0, 0, fun _ => 0, fun _ => 0, fun _ => 0, fun _ => 0, fun _ => 0, fun _ => 0, fun _ => 0, fun _ => 0, fun _ => 0, fun _ => 0, fun _ => 0, fun _ => 0, fun _ => 0, fun _ => 0, fun _ => 0, fun _ => 0, fun _ => 0, sm_cb 8, fun _ => 0, fun _ => 0, fun _ => 0, fun _ => 0, fun _ => 0, fun _ => 0, fun _ => 0, fun _ => 0) (nI RM, 0, 0, -1, -1, 0, 0, 0, 0, 0, 0, 0, fun _ => 0, mo, fun _ => 0, fun _ => 0, fun _ => 0, fun _ => 0, fun _ => 0, fun _ => 0, fun _ => 0, fun _ => 0, fun _ => 0, fun _ => 0, fun _ => 0, sm_cb 8, fun _ => 0, fun _ => 0, fun _ => 0, fun _ => 0, fun _ => 0, fun _ => 0, fun _ => 0, fun _ => 0, fun _ => 0) :=
  sm_in (sc := 0) (fc := 0) (mc := 0) (us := 0) (nb := 0) (uc := 0) (cost := fun _ => 0) (rk := fun _ => 0) hN
    ⟨fun _ _ => rfl, fun k h => absurd h (Nat.not_lt_zero k), fun k h => absurd h (Nat.not_lt_zero k), fun k h => absurd h (Nat.not_lt_zero k), fun k h => absurd h (Nat.not_lt_zero k)⟩
    ⟨⟨Nat.le_refl _, Nat.zero_le _⟩, fun k _ h => absurd h (Nat.not_lt_zero k), Or.inl ⟨rfl, rfl, rfl, rfl, rfl⟩⟩
theorem i_vc0 (k0 : Int32) (k1 : Int32) (k2 : Int32) (k3 : Int32) : wpX_init (fun u => wpY_init (fun v => i_Rel 4 u v) k0 k1 k2 k3) k0 k1 k2 k3 := by
  obtain ⟨ML, a1, a2, aX, aY⟩ := sm_clamp k0 2 16 (by omega) (by omega)
  obtain ⟨SL, b1, b2, bX, bY⟩ := sm_clamp k1 2 8 (by omega) (by omega)
  obtain ⟨FL, c1, c2, cX, cY⟩ := sm_clamp k2 1 6 (by omega) (by omega)
  obtain ⟨RM, d1, d2, dX, dY⟩ := sm_clamp k3 16 192 (by omega) (by omega)
  unfold wpX_init
  refine aX _ _ (bX _ _ (cX _ _ (dX _ _ (sm_xil ?_))))
  unfold wpY_init
  refine bY _ _ (nm_e (aY _ _ (nm_e (cY _ _ (nm_e (dY _ _ (sm_yil ?_)))))))
  refine sm_rel0 ⟨⟨a1, a2, b1, b2, c1, c2, d2⟩, ⟨by omega, by omega, by omega, by omega⟩, ⟨rfl, rfl, rfl⟩, ?_, ?_, ?_⟩
  · rfl
  · rfl
  · rfl
end
section
theorem sm_n01 {z : Int32} (h : z = 0 ∨ z = 1) : narrow .boolean (.int z) = .int z ∧ fits .boolean (.int z) = true := by
  rcases h with rfl | rfl
  · exact ⟨rfl, by decide⟩
  · exact ⟨rfl, by decide⟩
section sm_Y
variable {yrm ynb yus ydk ypl ypd ypc ydp yfr yht yst yfa : Int32} {md mo ky d1 d2 po bo fo ynk yno nbd ynl ycn ycb ck rA rN rD rC rO rX vY bY : Nat → Int32}
theorem sm_ye134 {post : SY → Prop} {m' r' l' h' f : Nat} {ins dom cod z : Int32} (hz : z = 0 ∨ z = 1) (hm' : m' < 16) (hr' : r' < 16) (hl : l' < 8) (hf : f < 128) (hh : h' < 512)
    (h : post (yrm, ynb, yus, ydk, ypl, ypd, ypc, ydp, nI (f + 1), nI h', yst, z, md, mo, ky, d1, d2, po, bo, fo, ynk, yno, nbd, ynl, ycn, ycb, ck, upd rA f (nI (8 * (9 + r') + l')), upd rN f (vY h'), upd rD f dom, upd rC f cod, upd rO f (if ins = 0 then sm_mx d2 (9 + m') l' else cod), upd rX f 0, vY, bY)) :
    wY_enter_134 post (nI (8 * (9 + m') + l')) ins (nI (9 + r')) dom cod z yrm ynb yus ydk ypl ypd ypc ydp (nI f) (nI h') yst yfa md mo ky d1 d2 po bo fo ynk yno nbd ynl ycn ycb ck rA rN rD rC rO rX vY bY := by
  have hx : 8 * (9 + m') + l' < 2 ^ 31 := by omega
  have i1 : vp_in (nI f) 128 := vp_in_nI hf (by omega)
  have i2 : vp_in (nI h') 512 := vp_in_nI hh (by omega)
  have i3 : vp_in (nI (8 * (9 + m') + l')) 424 := vp_in_nI (by omega) (by omega)
  unfold wY_enter_134
  rw [sm_q8 hx, sm_r8, show (8 * (9 + m') + l') % 8 = l' by omega, nI_clamp (show f < 2 ^ 31 by omega), nI_clamp (show h' < 2 ^ 31 by omega), nI_clamp hx, sm_mx2 (a := d2) hl]
  obtain ⟨z1, z2⟩ := sm_n01 hz
  refine ⟨z1, z2, sm_80, i1, nm_e ⟨i2, i1, nm_e ⟨i1, nm_e ⟨i1, nm_e (br_c (fun e => ⟨i3, ?_⟩) (fun e => ?_))⟩⟩⟩⟩
  · rw [if_pos e] at h
    unfold wY_enter_218
    rw [nI_clamp (show f < 2 ^ 31 by omega)]
    exact ⟨i1, nm_e ⟨i1, nm_e (nm_r (nI_1 f) h)⟩⟩
  · rw [if_neg e] at h
    unfold wY_enter_218
    rw [nI_clamp (show f < 2 ^ 31 by omega)]
    exact ⟨i1, nm_e ⟨i1, nm_e (nm_r (nI_1 f) h)⟩⟩
def sm_fa (a : Int32) (x y : Int32) : Int32 := if a = 0 then (if x = y then 0 else 1) else 1
theorem sm_fa01 (a x y : Int32) : sm_fa a x y = 0 ∨ sm_fa a x y = 1 := by
  unfold sm_fa
  split
  · split
    · exact Or.inl rfl
    · exact Or.inr rfl
  · exact Or.inr rfl
theorem sm_yenter {post : SY → Prop} {rt : Nat → Int32} {m' r' l' b' h' f : Nat} {ins : Int32} (hm' : m' < 16) (hl : l' < 8) (hf : f < 128) (hh : h' < 512) (hrm : r' ≤ m') (hr : rt m' = nI r') (hb : bo (9 + r') = nI b') (hb2 : b' < 22)
    (hch : ∀ mm, mm ≤ m' → rt mm = nI r' → mm = r' ∨ (bo (9 + mm) = -1 ∧ ∃ m2, m2 < mm ∧ r' ≤ m2 ∧ fo (9 + mm) = nI (9 + m2) ∧ rt m2 = nI r'))
    (hfo : fo (9 + r') = -1 ∨ ∃ mm, mm < 53 ∧ fo (9 + r') = nI mm)
    (h : post (yrm, ynb, yus, ydk, ypl, ypd, ypc, ydp, nI (f + 1), nI h', yst, sm_fa yfa (bY h') (if ins = 0 then sm_mx d1 (9 + m') l' else sm_sb d1 fo (9 + r') (sm_mx d1 (31 + b') l')), md, mo, ky, d1, d2, po, bo, fo, ynk, yno, nbd, ynl, ycn, ycb, ck, upd rA f (nI (8 * (9 + r') + l')), upd rN f (vY h'), upd rD f (sm_sb d1 fo (9 + r') (sm_mx d1 (31 + b') l')), upd rC f (sm_sb d1 fo (9 + r') (sm_mx d2 (31 + b') l')), upd rO f (if ins = 0 then sm_mx d2 (9 + m') l' else sm_sb d1 fo (9 + r') (sm_mx d2 (31 + b') l')), upd rX f 0, vY, bY)) :
    wpY_enter post (yrm, ynb, yus, ydk, ypl, ypd, ypc, ydp, nI f, nI (h' + 1), yst, yfa, md, mo, ky, d1, d2, po, bo, fo, ynk, yno, nbd, ynl, ycn, ycb, ck, rA, rN, rD, rC, rO, rX, vY, bY) (nI (8 * (9 + m') + l')) ins := by
  have hx : 8 * (9 + m') + l' < 2 ^ 31 := by omega
  have i3 : vp_in (nI (8 * (9 + m') + l')) 424 := vp_in_nI (by omega) (by omega)
  have key : ∀ d i mm, i + d = 16 → mm ≤ m' → rt mm = nI r' → r' ≤ mm → mm ≤ r' + d → wY_enter_8 post (nI (8 * (9 + m') + l')) ins yrm ynb yus ydk ypl ypd ypc ydp (nI f) (nI (h' + 1)) yst yfa md mo ky d1 d2 po bo fo ynk yno nbd ynl ycn ycb ck rA rN rD rC rO rX vY bY (d + 1) (nI (9 + mm)) (nI i) := by
    intro d
    induction d with
    | zero =>
      intro i mm hi hmm hrt h1 h2
      have e : mm = r' := by omega
      subst e
      have e : i = 16 := by omega
      subst e
      have i5 : vp_in (nI (9 + mm)) 53 := vp_in_nI (by omega) (by omega)
      have i4 : vp_in (nI (8 * (31 + b') + l')) 424 := vp_in_nI (by omega) (by omega)
      have c4 : ∀ a : Nat → Int32, a (nI (8 * (31 + b') + l')).toNatClampNeg = sm_mx a (31 + b') l' := fun a => by rw [nI_clamp (by omega)]; exact sm_mx2 hl
      have ih : vp_in (nI h') 512 := vp_in_nI hh (by omega)
      refine br_t (by decide) ⟨i5, sm_80, nm_r (e' := nI (8 * (31 + b') + l')) ?_ ⟨i4, ?_⟩⟩
      · rw [sm_q8 hx, nI_clamp (by omega), hb, sm_l31, sm_r8, show (8 * (9 + m') + l') % 8 = l' by omega]
      · rw [c4 d1, c4 d2]
        refine sm_ysub (by omega) (fun _ _ => hfo) ⟨i4, sm_ysub (by omega) (fun _ _ => hfo) (nm_r (nI_pred h') ?_)⟩
        unfold sm_fa at h
        refine br_c (fun e0 => ⟨ih, ?_⟩) (fun e0 => ?_)
        · rw [if_pos e0] at h
          rw [nI_clamp (show h' < 2 ^ 31 by omega), nI_clamp hx, sm_mx2 (a := d1) hl]
          refine br_c (fun ei => ⟨i3, br_c (fun e => ?_) (fun e => ?_)⟩) (fun ei => br_c (fun e => ?_) (fun e => ?_))
          · rw [if_pos (c := ins = 0) ei, if_pos e] at h
            exact sm_ye134 (Or.inl rfl) hm' (by omega) hl hf hh h
          · rw [if_pos (c := ins = 0) ei, if_neg e] at h
            exact sm_ye134 (Or.inr rfl) hm' (by omega) hl hf hh h
          · rw [if_neg (c := ins = 0) ei, if_pos e] at h
            exact sm_ye134 (Or.inl rfl) hm' (by omega) hl hf hh h
          · rw [if_neg (c := ins = 0) ei, if_neg e] at h
            exact sm_ye134 (Or.inr rfl) hm' (by omega) hl hf hh h
        · rw [if_neg e0] at h
          exact sm_ye134 (Or.inr rfl) hm' (by omega) hl hf hh h
    | succ d ih =>
      intro i mm hi hmm hrt h1 h2
      have i5 : vp_in (nI (9 + mm)) 53 := vp_in_nI (by omega) (by omega)
      have c5 : (nI (9 + mm)).toNatClampNeg = 9 + mm := nI_clamp (by omega)
      unfold wY_enter_8
      rw [c5]
      refine br_f (sm_n16 (by omega)) ⟨i5, ?_⟩
      by_cases e : mm = r'
      · subst e
        rw [hb]
        exact br_t (nI_pos' (by omega)) (nm_r (nI_1 i) (ih (i + 1) mm (by omega) hmm hrt h1 (by omega)))
      · obtain ⟨q1, m2, q2, q3, q4, q5⟩ := (hch mm hmm hrt).resolve_left e
        rw [q1]
        exact br_f sm_n1le ⟨i5, nm_r q4 (nm_r (nI_1 i) (ih (i + 1) m2 (by omega) (by omega) q5 q3 (by omega)))⟩
  refine ⟨sm_80, nm_r (e' := nI (9 + m')) (by rw [sm_d8 hx, show (8 * (9 + m') + l') / 8 = 9 + m' by omega]) ⟨17, ?_⟩⟩
  have K := key 16 0 m' rfl (Nat.le_refl _) hr hrm (by omega)
  rw [nI_0] at K
  exact K
end sm_Y
end
section
def sm_ar (k u v : Int32) : Int32 := if k = 2 then u + v else if k = 3 then u - v else u * v
section sm_Y
variable {yrm ynb yus ydk ypl ypd ypc ydp yfr yht yst yfa : Int32} {md mo ky d1 d2 po bo fo ynk yno nbd ynl ycn ycb ck rA rN rD rC rO rX vY bY : Nat → Int32}
theorem sm_yscan {post : SY → Prop} {t q l b us e : Nat} (ht : t < 128) (hq : q < 16) (hl : l < 8) (hus : us ≤ 192) (hA : rA t = nI (8 * (9 + q) + l)) (hb : bo (9 + q) = nI b) (hend : e = us ∨ (e < us ∧ nbd e = nI b ∧ ynl e = nI l))
    (h : wY_advance_71 post (nI t) (nI (9 + q)) (nI e) yrm ynb (nI us) ydk ypl ypd ypc ydp yfr yht yst yfa md mo ky d1 d2 po bo fo ynk yno nbd ynl ycn ycb ck rA rN rD rC rO rX vY bY) : ∀ d x, x + d = e → (∀ k, x ≤ k → k < e → ¬ (nbd k = nI b ∧ ynl k = nI l)) → wY_advance_24 post (nI t) (nI (9 + q)) yrm ynb (nI us) ydk ypl ypd ypc ydp yfr yht yst yfa md mo ky d1 d2 po bo fo ynk yno nbd ynl ycn ycb ck rA rN rD rC rO rX vY bY (d + 1) (nI x) := by
  have it : vp_in (nI t) 128 := vp_in_nI ht (by omega)
  have iq : vp_in (nI (9 + q)) 53 := vp_in_nI (by omega) (by omega)
  have ct : (nI t).toNatClampNeg = t := nI_clamp (by omega)
  have cq : (nI (9 + q)).toNatClampNeg = 9 + q := nI_clamp (by omega)
  have hA8 : nI (8 * (9 + q) + l) - nI (8 * (9 + q) + l) / 8 * 8 = nI l := by rw [sm_q8 (by omega), show (8 * (9 + q) + l) % 8 = l by omega]
  intro d
  induction d with
  | zero =>
    intro x hx _
    have ex : x = e := by omega
    subst ex
    unfold wY_advance_24
    rw [ct, cq, hA, hb, hA8]
    rcases hend with z | ⟨z1, z2, z3⟩
    · exact br_t (by rw [z]; exact nI_le (Nat.le_refl _) (by omega)) h
    · rw [nI_clamp (show x < 2 ^ 31 by omega)]
      have ix : vp_in (nI x) 192 := vp_in_nI (by omega) (by omega)
      exact br_f (nI_ge z1 (by omega)) ⟨ix, iq, br_t z2 ⟨ix, it, sm_80, br_t z3 h⟩⟩
  | succ d ih =>
    intro x hx hn
    have xlt : x < us := by omega
    have ix : vp_in (nI x) 192 := vp_in_nI (by omega) (by omega)
    have K := ih (x + 1) (by omega) (fun k a b => hn k (by omega) b)
    have hnx := hn x (Nat.le_refl _) (by omega)
    unfold wY_advance_24
    rw [ct, cq, hA, hb, hA8, nI_clamp (show x < 2 ^ 31 by omega)]
    exact br_f (nI_ge xlt (by omega)) ⟨ix, iq, br_c (fun a => ⟨ix, it, sm_80, br_c (fun c => absurd ⟨a, c⟩ hnx) (fun _ => nm_r (nI_1 x) K)⟩) (fun _ => nm_r (nI_1 x) K)⟩
theorem sm_yadv {post : SY → Prop} {t q l b us e x : Nat} (ht : t < 128) (hq : q < 16) (hl : l < 8) (hus : us ≤ 192) (hA : rA t = nI (8 * (9 + q) + l)) (hX : rX t = nI x) (hb : bo (9 + q) = nI b) (hend : e = us ∨ (e < us ∧ nbd e = nI b ∧ ynl e = nI l)) (hxe : x ≤ e)
    (hn : ∀ k, x ≤ k → k < e → ¬ (nbd k = nI b ∧ ynl k = nI l)) (h : wY_advance_71 post (nI t) (nI (9 + q)) (nI e) yrm ynb (nI us) ydk ypl ypd ypc ydp (nI (t + 1)) yht yst yfa md mo ky d1 d2 po bo fo ynk yno nbd ynl ycn ycb ck rA rN rD rC rO rX vY bY) : wpY_advance post (yrm, ynb, nI us, ydk, ypl, ypd, ypc, ydp, nI (t + 1), yht, yst, yfa, md, mo, ky, d1, d2, po, bo, fo, ynk, yno, nbd, ynl, ycn, ycb, ck, rA, rN, rD, rC, rO, rX, vY, bY) := by
  have it : vp_in (nI t) 128 := vp_in_nI ht (by omega)
  have ct : (nI t).toNatClampNeg = t := nI_clamp (by omega)
  refine nm_r (nI_pred t) ⟨it, sm_80, nm_r (e' := nI (9 + q)) ?_ ⟨it, nm_r (e' := nI x) (by rw [ct, hX]) ⟨_, sm_yscan ht hq hl hus hA hb hend h (e - x) x (by omega) hn⟩⟩⟩
  rw [ct, hA, sm_d8 (by omega), show (8 * (9 + q) + l) / 8 = 9 + q by omega]
theorem sm_y71p {post : SY → Prop} {t pc us h st : Nat} {x2 : Int32} (ht : t < 128) (hpc : pc < us) (hus : us ≤ 192) (hh : h < 512) (hk : ynk pc = 0 ∨ ynk pc = 1)
    (hp : post (yrm, ynb, nI us, ydk, ypl, ypd, ypc, ydp, yfr, nI (h + 1), nI (st + 1), yfa, md, mo, ky, d1, d2, po, bo, fo, ynk, yno, nbd, ynl, ycn, ycb, ck, rA, rN, rD, rC, rO, upd rX t (nI (pc + 1)), upd vY h (if ynk pc = 0 then rN t else yno pc), upd bY h (if ynk pc = 0 then rD t else -1))) : wY_advance_71 post (nI t) x2 (nI pc) yrm ynb (nI us) ydk ypl ypd ypc ydp yfr (nI h) (nI st) yfa md mo ky d1 d2 po bo fo ynk yno nbd ynl ycn ycb ck rA rN rD rC rO rX vY bY := by
  have it : vp_in (nI t) 128 := vp_in_nI ht (by omega)
  have ip : vp_in (nI pc) 192 := vp_in_nI (by omega) (by omega)
  have ih : vp_in (nI h) 512 := vp_in_nI hh (by omega)
  have ct : (nI t).toNatClampNeg = t := nI_clamp (by omega)
  have cp : (nI pc).toNatClampNeg = pc := nI_clamp (by omega)
  have ch : (nI h).toNatClampNeg = h := nI_clamp (by omega)
  refine br_t (nI_lt hpc (by omega)) ⟨it, nm_r (e' := upd rX t (nI (pc + 1))) (by rw [ct, nI_1]) (nm_r (nI_1 st) ⟨ip, nm_r (e' := ynk pc) (by rw [cp]) ⟨ip, nm_r (e' := yno pc) (by rw [cp]) ?_⟩⟩)⟩
  rcases hk with hk | hk
  · rw [if_pos hk, if_pos hk] at hp
    refine br_t hk ?_
    unfold wY_advance_184 wY_advance_208 wY_advance_232
    rw [ct, ch]
    exact br_t hk ⟨it, ih, nm_e (br_t hk ⟨it, ih, nm_e (nm_r (nI_1 h) hp)⟩)⟩
  · have k0 : ¬ ynk pc = 0 := by rw [hk]; decide
    rw [if_neg k0, if_neg k0] at hp
    refine br_f k0 (br_t hk ?_)
    unfold wY_advance_184 wY_advance_208 wY_advance_232
    rw [ch]
    exact br_f k0 ⟨ih, nm_e (br_f k0 ⟨ih, nm_e (nm_r (nI_1 h) hp)⟩)⟩
theorem sm_y396 {post : SY → Prop} {h : Nat} {k u v z : Int32} (hz : z = 0 ∨ z = 1) (hh : h + 1 < 512) (hp : post (yrm, ynb, yus, ydk, ypl, ypd, ypc, ydp, yfr, nI (h + 1), yst, z, md, mo, ky, d1, d2, po, bo, fo, ynk, yno, nbd, ynl, ycn, ycb, ck, rA, rN, rD, rC, rO, rX, upd vY h (sm_ar k u v), upd bY h (-1))) : wY_advance_396 post k u v z yrm ynb yus ydk ypl ypd ypc ydp yfr (nI (h + 1)) yst yfa md mo ky d1 d2 po bo fo ynk yno nbd ynl ycn ycb ck rA rN rD rC rO rX vY bY := by
  have ih : vp_in (nI h) 512 := vp_in_nI (by omega) (by omega)
  have ch : (nI h).toNatClampNeg = h := nI_clamp (by omega)
  obtain ⟨z1, z2⟩ := sm_n01 hz
  unfold wY_advance_396 wY_advance_442
  rw [nI_pred, ch]
  unfold sm_ar at hp
  refine ⟨z1, z2, br_c (fun e => ?_) (fun e => br_c (fun e2 => ?_) (fun e2 => ?_))⟩
  · rw [if_pos e] at hp
    exact ⟨ih, nm_e ⟨ih, nm_e hp⟩⟩
  · rw [if_neg e, if_pos e2] at hp
    exact ⟨ih, nm_e ⟨ih, nm_e hp⟩⟩
  · rw [if_neg e, if_neg e2] at hp
    exact ⟨ih, nm_e ⟨ih, nm_e hp⟩⟩
theorem sm_y71a {post : SY → Prop} {t pc us h st : Nat} {x2 : Int32} (ht : t < 128) (hpc : pc < us) (hus : us ≤ 192) (hh : h + 2 < 512) (k0 : ¬ ynk pc = 0) (k1 : ¬ ynk pc = 1) (k5 : ¬ ynk pc = 5)
    (hp : post (yrm, ynb, nI us, ydk, ypl, ypd, ypc, ydp, yfr, nI (h + 1), nI (st + 1), sm_fa (sm_fa yfa (bY h) (-1)) (bY (h + 1)) (-1), md, mo, ky, d1, d2, po, bo, fo, ynk, yno, nbd, ynl, ycn, ycb, ck, rA, rN, rD, rC, rO, upd rX t (nI (pc + 1)), upd vY h (sm_ar (ynk pc) (vY h) (vY (h + 1))), upd bY h (-1))) : wY_advance_71 post (nI t) x2 (nI pc) yrm ynb (nI us) ydk ypl ypd ypc ydp yfr (nI (h + 2)) (nI st) yfa md mo ky d1 d2 po bo fo ynk yno nbd ynl ycn ycb ck rA rN rD rC rO rX vY bY := by
  have it : vp_in (nI t) 128 := vp_in_nI ht (by omega)
  have ip : vp_in (nI pc) 192 := vp_in_nI (by omega) (by omega)
  have ih : vp_in (nI h) 512 := vp_in_nI (by omega) (by omega)
  have ih1 : vp_in (nI (h + 1)) 512 := vp_in_nI (by omega) (by omega)
  have ct : (nI t).toNatClampNeg = t := nI_clamp (by omega)
  have cp : (nI pc).toNatClampNeg = pc := nI_clamp (by omega)
  have ch : (nI h).toNatClampNeg = h := nI_clamp (by omega)
  have ch1 : (nI (h + 1)).toNatClampNeg = h + 1 := nI_clamp (by omega)
  have e21 : nI (h + 1) - 1 = nI h := nI_pred h
  refine br_t (nI_lt hpc (by omega)) ⟨it, nm_r (e' := upd rX t (nI (pc + 1))) (by rw [ct, nI_1]) (nm_r (nI_1 st) ⟨ip, nm_r (e' := ynk pc) (by rw [cp]) ⟨ip, nm_r (e' := yno pc) (by rw [cp]) (br_f k0 (br_f k1 (br_f k5 ?_)))⟩⟩)⟩
  refine nm_r (nI_pred (h + 1)) ?_
  rw [e21, ch, ch1]
  refine ⟨ih, nm_e ⟨ih1, nm_e ?_⟩⟩
  unfold sm_fa at hp
  refine br_c (fun e => ⟨ih, br_c (fun e1 => ⟨ih1, br_c (fun e2 => ?_) (fun e2 => ?_)⟩) (fun e1 => ?_)⟩) (fun e => ?_)
  · rw [if_pos e, if_pos e1, if_pos rfl, if_pos e2] at hp
    exact sm_y396 (Or.inl rfl) (by omega) hp
  · rw [if_pos e, if_pos e1, if_pos rfl, if_neg e2] at hp
    exact sm_y396 (Or.inr rfl) (by omega) hp
  · rw [if_pos e, if_neg e1, if_neg (by decide)] at hp
    exact sm_y396 (Or.inr rfl) (by omega) hp
  · rw [if_neg e, if_neg (by decide)] at hp
    exact sm_y396 (Or.inr rfl) (by omega) hp
theorem sm_y71l {post : SY → Prop} {t us h : Nat} {x2 : Int32} (ht : t < 128) (hus : us ≤ 192) (hh : h < 512)
    (hp : post (yrm, ynb, nI us, ydk, ypl, ypd, ypc, ydp, nI t, nI (h + 1), yst, sm_fa yfa (bY h) (rC t), md, mo, ky, d1, d2, po, bo, fo, ynk, yno, nbd, ynl, ycn, ycb, ck, rA, rN, rD, rC, rO, rX, vY, upd bY h (rO t))) : wY_advance_71 post (nI t) x2 (nI us) yrm ynb (nI us) ydk ypl ypd ypc ydp yfr (nI (h + 1)) yst yfa md mo ky d1 d2 po bo fo ynk yno nbd ynl ycn ycb ck rA rN rD rC rO rX vY bY := by
  have it : vp_in (nI t) 128 := vp_in_nI ht (by omega)
  have ih : vp_in (nI h) 512 := vp_in_nI (by omega) (by omega)
  have ct : (nI t).toNatClampNeg = t := nI_clamp (by omega)
  have ch : (nI h).toNatClampNeg = h := nI_clamp (by omega)
  have G : ∀ z : Int32, (z = 0 ∨ z = 1) → post (yrm, ynb, nI us, ydk, ypl, ypd, ypc, ydp, nI t, nI (h + 1), yst, z, md, mo, ky, d1, d2, po, bo, fo, ynk, yno, nbd, ynl, ycn, ycb, ck, rA, rN, rD, rC, rO, rX, vY, upd bY h (rO t)) → wY_advance_112 post (nI t) z yrm ynb (nI us) ydk ypl ypd ypc ydp yfr (nI (h + 1)) yst yfa md mo ky d1 d2 po bo fo ynk yno nbd ynl ycn ycb ck rA rN rD rC rO rX vY bY := by
    intro z hz hp
    obtain ⟨z1, z2⟩ := sm_n01 hz
    unfold wY_advance_112
    rw [nI_pred, ch, ct]
    exact ⟨z1, z2, it, ih, nm_e hp⟩
  unfold sm_fa at hp
  refine br_f (nI_nlt (Nat.le_refl _) (by omega)) ?_
  rw [nI_pred, ch, ct]
  refine br_c (fun e => ⟨ih, it, br_c (fun e1 => ?_) (fun e1 => ?_)⟩) (fun e => ?_)
  · rw [if_pos e, if_pos e1] at hp
    exact G 0 (Or.inl rfl) hp
  · rw [if_pos e, if_neg e1] at hp
    exact G 1 (Or.inr rfl) hp
  · rw [if_neg e] at hp
    exact G 1 (Or.inr rfl) hp
theorem sm_y71c {post : SY → Prop} {t q pc us st W m' : Nat} (ht : t < 128) (hq : q < 16) (hpc : pc < us) (hus : us ≤ 192) (k5 : ynk pc = 5) (hW : W < 2 ^ 31) (eW : yno pc = nI W) (m0 : W / 8 = 0 → m' = q) (m1 : W / 8 = 1 → fo (9 + q) = nI (9 + m')) (m2 : 2 ≤ W / 8 → m' = W / 8 - 2)
    (hp : wpY_enter (fun u => match u with | (yrm, ynb, yus, ydk, ypl, ypd, ypc, ydp, yfr, yht, yst, yfa, md, mo, ky, d1, d2, po, bo, fo, ynk, yno, nbd, ynl, ycn, ycb, ck, rA, rN, rD, rC, rO, rX, vY, bY) => post (yrm, ynb, yus, ydk, ypl, ypd, ypc, ydp, yfr, yht, yst, yfa, md, mo, ky, d1, d2, po, bo, fo, ynk, yno, nbd, ynl, ycn, ycb, ck, rA, rN, rD, rC, rO, rX, vY, bY)) (yrm, ynb, nI us, ydk, ypl, ypd, ypc, ydp, yfr, yht, nI (st + 1), yfa, md, mo, ky, d1, d2, po, bo, fo, ynk, yno, nbd, ynl, ycn, ycb, ck, rA, rN, rD, rC, rO, upd rX t (nI (pc + 1)), vY, bY) (nI (8 * (9 + m') + W % 8)) (if W / 8 = 0 then 1 else 0)) : wY_advance_71 post (nI t) (nI (9 + q)) (nI pc) yrm ynb (nI us) ydk ypl ypd ypc ydp yfr yht (nI st) yfa md mo ky d1 d2 po bo fo ynk yno nbd ynl ycn ycb ck rA rN rD rC rO rX vY bY := by
  have it : vp_in (nI t) 128 := vp_in_nI ht (by omega)
  have ip : vp_in (nI pc) 192 := vp_in_nI (by omega) (by omega)
  have iq : vp_in (nI (9 + q)) 53 := vp_in_nI (by omega) (by omega)
  have ct : (nI t).toNatClampNeg = t := nI_clamp (by omega)
  have cp : (nI pc).toNatClampNeg = pc := nI_clamp (by omega)
  have cq : (nI (9 + q)).toNatClampNeg = 9 + q := nI_clamp (by omega)
  refine br_t (nI_lt hpc (by omega)) ⟨it, nm_r (e' := upd rX t (nI (pc + 1))) (by rw [ct, nI_1]) (nm_r (nI_1 st) ⟨ip, nm_r (e' := 5) (by rw [cp, k5]) ⟨ip, nm_r (e' := nI W) (by rw [cp, eW]) (br_f (by decide) (br_f (by decide) (br_t rfl ?_)))⟩⟩)⟩
  have G : ∀ z0, z0 = nI (9 + m') → wY_advance_289 post (nI W) z0 yrm ynb (nI us) ydk ypl ypd ypc ydp yfr yht (nI (st + 1)) yfa md mo ky d1 d2 po bo fo ynk yno nbd ynl ycn ycb ck rA rN rD rC rO (upd rX t (nI (pc + 1))) vY bY := by
    intro z0 hz
    subst hz
    unfold wY_advance_289 wY_advance_315
    rw [sm_q8 hW, sm_r8]
    by_cases h0 : W / 8 = 0
    · rw [if_pos h0] at hp
      exact ⟨sm_80, br_f (sm_n8 (by omega)) hp⟩
    · rw [if_neg h0] at hp
      exact ⟨sm_80, br_t (sm_g8 (by omega) hW) hp⟩
  by_cases h0 : W / 8 = 0
  · exact br_f (sm_n8 (by omega)) (G _ (by rw [m0 h0]))
  · refine br_t (sm_g8 (by omega) hW) ?_
    by_cases h1 : W / 8 = 1
    · refine br_f (sm_n16 (by omega)) ⟨iq, ?_⟩
      rw [cq]
      exact G _ (m1 h1)
    · refine br_t (sm_g16 (by omega) hW) ⟨sm_80, G _ ?_⟩
      rw [sm_d8 hW, sm_l9, sm_s2 (by omega), m2 (by omega)]
      exact congrArg nI (by omega)
end sm_Y
end
section
section sm_X
variable {xa xb xml xsl xfl xrm xsc xfc xmc xus dk dp df pl pd pc pf cd xfr xht : Int32} {kx dx cx fx tx sp fp ff ft rt ag wk nk no nl cs cn cb fM fA fI fB fP fF vx bx : Nat → Int32}
theorem sm_xenter {post : Int32 → SX → Prop} {r' l' f h' a' : Nat} {n rb : Int32} (hf : f < 128) (hr : r' < 16) (hl : l' < 8) (hfx : sm_mx fx (31 + r') l' = nI a')
    (h : post 1 (xa, xb, xml, xsl, xfl, xrm, xsc, xfc, xmc, xus, dk, dp, df, pl, pd, pc, pf, cd, nI (f + 1), nI h', kx, dx, cx, fx, tx, sp, fp, ff, ft, rt, ag, wk, nk, no, nl, cs, cn, cb, upd fM f (nI r'), upd fA f (nI ((31 + r') * 8 + l')), upd fI f n, upd fB f rb, upd fP f (nI a'), upd fF f (nI h'), vx, bx)) : wpX_enter post (xa, xb, xml, xsl, xfl, xrm, xsc, xfc, xmc, xus, dk, dp, df, pl, pd, pc, pf, cd, nI f, nI h', kx, dx, cx, fx, tx, sp, fp, ff, ft, rt, ag, wk, nk, no, nl, cs, cn, cb, fM, fA, fI, fB, fP, fF, vx, bx) (nI r') (nI l') n rb := by
  have i1 : vp_in (nI f) 128 := vp_in_nI hf (by omega)
  have i2 : vp_in (nI ((31 + r') * 8 + l')) 424 := vp_in_nI (by omega) (by omega)
  have cf : (nI f).toNatClampNeg = f := nI_clamp (by omega)
  refine br_t (nI_lt (b := 128) hf (by decide)) (sm_xis (nm_r (sm_8r _ _) ?_))
  rw [cf, nI_clamp (show (31 + r') * 8 + l' < 2 ^ 31 by omega), sm_mx1 (a := fx) hl, hfx]
  exact ⟨i1, nm_e ⟨i1, nm_e ⟨i1, nm_e ⟨i1, nm_e ⟨i2, i1, nm_e ⟨i1, nm_e (nm_r (nI_1 f) h)⟩⟩⟩⟩⟩⟩
theorem sm_xrun {post : Int32 → SX → Prop} {m' r' l' f h' a' : Nat} {n b : Int32} (hf : f < 128) (hm : m' < 16) (hr : r' < 16) (hl : l' < 8) (hrt : rt m' = nI r') (hfx : sm_mx fx (31 + r') l' = nI a')
    (h1 : b = sm_mx dx (9 + m') l' → post 1 (xa, xb, xml, xsl, xfl, xrm, xsc, xfc, xmc, xus, dk, dp, df, pl, pd, pc, pf, cd, nI (f + 1), nI h', kx, dx, cx, fx, tx, sp, fp, ff, ft, rt, ag, wk, nk, no, nl, cs, cn, cb, upd fM f (nI r'), upd fA f (nI ((31 + r') * 8 + l')), upd fI f n, upd fB f (sm_mx cx (9 + m') l'), upd fP f (nI a'), upd fF f (nI h'), vx, bx))
    (h2 : ¬ b = sm_mx dx (9 + m') l' → post 0 (xa, xb, xml, xsl, xfl, xrm, xsc, xfc, xmc, xus, dk, dp, df, pl, pd, pc, pf, cd, nI f, nI h', kx, dx, cx, fx, tx, sp, fp, ff, ft, rt, ag, wk, nk, no, nl, cs, cn, cb, fM, fA, fI, fB, fP, fF, vx, bx)) : wpX_run post (xa, xb, xml, xsl, xfl, xrm, xsc, xfc, xmc, xus, dk, dp, df, pl, pd, pc, pf, cd, nI f, nI h', kx, dx, cx, fx, tx, sp, fp, ff, ft, rt, ag, wk, nk, no, nl, cs, cn, cb, fM, fA, fI, fB, fP, fF, vx, bx) (nI m') (nI l') n b := by
  have i2 : vp_in (nI ((9 + m') * 8 + l')) 424 := vp_in_nI (by omega) (by omega)
  have i3 : vp_in (nI m') 16 := vp_in_nI hm (by omega)
  unfold wpX_run
  refine sm_xms (nm_r (sm_8r _ _) ⟨i2, ?_⟩)
  rw [nI_clamp (show (9 + m') * 8 + l' < 2 ^ 31 by omega), sm_mx1 (a := dx) hl, sm_mx1 (a := cx) hl, nI_clamp (show m' < 2 ^ 31 by omega), hrt]
  exact br_c (fun e => ⟨i3, i2, sm_xenter hf hr hl hfx ⟨rfl, h1 e⟩⟩) h2
theorem sm_xinside {post : Int32 → SX → Prop} {m' l' f h' a' : Nat} {n b : Int32} (hf : f < 128) (hm : m' < 16) (hl : l' < 8) (hfx : sm_mx fx (31 + m') l' = nI a')
    (h1 : b = sm_mx dx (31 + m') l' → post 1 (xa, xb, xml, xsl, xfl, xrm, xsc, xfc, xmc, xus, dk, dp, df, pl, pd, pc, pf, cd, nI (f + 1), nI h', kx, dx, cx, fx, tx, sp, fp, ff, ft, rt, ag, wk, nk, no, nl, cs, cn, cb, upd fM f (nI m'), upd fA f (nI ((31 + m') * 8 + l')), upd fI f n, upd fB f (sm_mx cx (31 + m') l'), upd fP f (nI a'), upd fF f (nI h'), vx, bx))
    (h2 : ¬ b = sm_mx dx (31 + m') l' → post 0 (xa, xb, xml, xsl, xfl, xrm, xsc, xfc, xmc, xus, dk, dp, df, pl, pd, pc, pf, cd, nI f, nI h', kx, dx, cx, fx, tx, sp, fp, ff, ft, rt, ag, wk, nk, no, nl, cs, cn, cb, fM, fA, fI, fB, fP, fF, vx, bx)) : wpX_inside post (xa, xb, xml, xsl, xfl, xrm, xsc, xfc, xmc, xus, dk, dp, df, pl, pd, pc, pf, cd, nI f, nI h', kx, dx, cx, fx, tx, sp, fp, ff, ft, rt, ag, wk, nk, no, nl, cs, cn, cb, fM, fA, fI, fB, fP, fF, vx, bx) (nI m') (nI l') n b := by
  have i2 : vp_in (nI ((31 + m') * 8 + l')) 424 := vp_in_nI (by omega) (by omega)
  unfold wpX_inside
  refine sm_xis (nm_r (sm_8r _ _) ⟨i2, ?_⟩)
  rw [nI_clamp (show (31 + m') * 8 + l' < 2 ^ 31 by omega), sm_mx1 (a := dx) hl, sm_mx1 (a := cx) hl]
  exact br_c (fun e => ⟨i2, sm_xenter hf hm hl hfx ⟨rfl, h1 e⟩⟩) h2
theorem sm_xstep {post : Int32 → SX → Prop} {t q l pp c : Nat} (ht : t < 128) (hq : q < 16) (hl : l < 8) (hc : c ≤ 192) (hpp : pp ≤ c) (hP : fP t = nI pp) (hA : fA t = nI ((31 + q) * 8 + l)) (hT : sm_mx tx (31 + q) l = nI c)
    (h1 : pp < c → ((nk pp = 0 → wpX_push (fun r u => match u with | (xa, xb, xml, xsl, xfl, xrm, xsc, xfc, xmc, xus, dk, dp, df, pl, pd, pc, pf, cd, xfr, xht, kx, dx, cx, fx, tx, sp, fp, ff, ft, rt, ag, wk, nk, no, nl, cs, cn, cb, fM, fA, fI, fB, fP, fF, vx, bx) => (narrow .boolean (.int r) = .int r ∧ post r (xa, xb, xml, xsl, xfl, xrm, xsc, xfc, xmc, xus, dk, dp, df, pl, pd, pc, pf, cd, xfr, xht, kx, dx, cx, fx, tx, sp, fp, ff, ft, rt, ag, wk, nk, no, nl, cs, cn, cb, fM, fA, fI, fB, fP, fF, vx, bx))) (xa, xb, xml, xsl, xfl, xrm, xsc, xfc, xmc, xus, dk, dp, df, pl, pd, pc, pf, cd, nI (t + 1), xht, kx, dx, cx, fx, tx, sp, fp, ff, ft, rt, ag, wk, nk, no, nl, cs, cn, cb, fM, fA, fI, fB, upd fP t (nI (pp + 1)), fF, vx, bx) (fI t) (sm_mx dx (31 + q) l)) ∧ (¬ nk pp = 0 → ((nk pp = 1 → wpX_push (fun r u => match u with | (xa, xb, xml, xsl, xfl, xrm, xsc, xfc, xmc, xus, dk, dp, df, pl, pd, pc, pf, cd, xfr, xht, kx, dx, cx, fx, tx, sp, fp, ff, ft, rt, ag, wk, nk, no, nl, cs, cn, cb, fM, fA, fI, fB, fP, fF, vx, bx) => (narrow .boolean (.int r) = .int r ∧ post r (xa, xb, xml, xsl, xfl, xrm, xsc, xfc, xmc, xus, dk, dp, df, pl, pd, pc, pf, cd, xfr, xht, kx, dx, cx, fx, tx, sp, fp, ff, ft, rt, ag, wk, nk, no, nl, cs, cn, cb, fM, fA, fI, fB, fP, fF, vx, bx))) (xa, xb, xml, xsl, xfl, xrm, xsc, xfc, xmc, xus, dk, dp, df, pl, pd, pc, pf, cd, nI (t + 1), xht, kx, dx, cx, fx, tx, sp, fp, ff, ft, rt, ag, wk, nk, no, nl, cs, cn, cb, fM, fA, fI, fB, upd fP t (nI (pp + 1)), fF, vx, bx) (no pp) (-1)) ∧ (¬ nk pp = 1 → ((nk pp = 5 → wpX_callNode (fun r u => match u with | (xa, xb, xml, xsl, xfl, xrm, xsc, xfc, xmc, xus, dk, dp, df, pl, pd, pc, pf, cd, xfr, xht, kx, dx, cx, fx, tx, sp, fp, ff, ft, rt, ag, wk, nk, no, nl, cs, cn, cb, fM, fA, fI, fB, fP, fF, vx, bx) => (narrow .boolean (.int r) = .int r ∧ post r (xa, xb, xml, xsl, xfl, xrm, xsc, xfc, xmc, xus, dk, dp, df, pl, pd, pc, pf, cd, xfr, xht, kx, dx, cx, fx, tx, sp, fp, ff, ft, rt, ag, wk, nk, no, nl, cs, cn, cb, fM, fA, fI, fB, fP, fF, vx, bx))) (xa, xb, xml, xsl, xfl, xrm, xsc, xfc, xmc, xus, dk, dp, df, pl, pd, pc, pf, cd, nI (t + 1), xht, kx, dx, cx, fx, tx, sp, fp, ff, ft, rt, ag, wk, nk, no, nl, cs, cn, cb, fM, fA, fI, fB, upd fP t (nI (pp + 1)), fF, vx, bx) (nI t) (no pp)) ∧ (¬ nk pp = 5 → wpX_arithmetic (fun r u => match u with | (xa, xb, xml, xsl, xfl, xrm, xsc, xfc, xmc, xus, dk, dp, df, pl, pd, pc, pf, cd, xfr, xht, kx, dx, cx, fx, tx, sp, fp, ff, ft, rt, ag, wk, nk, no, nl, cs, cn, cb, fM, fA, fI, fB, fP, fF, vx, bx) => (narrow .boolean (.int r) = .int r ∧ post r (xa, xb, xml, xsl, xfl, xrm, xsc, xfc, xmc, xus, dk, dp, df, pl, pd, pc, pf, cd, xfr, xht, kx, dx, cx, fx, tx, sp, fp, ff, ft, rt, ag, wk, nk, no, nl, cs, cn, cb, fM, fA, fI, fB, fP, fF, vx, bx))) (xa, xb, xml, xsl, xfl, xrm, xsc, xfc, xmc, xus, dk, dp, df, pl, pd, pc, pf, cd, nI (t + 1), xht, kx, dx, cx, fx, tx, sp, fp, ff, ft, rt, ag, wk, nk, no, nl, cs, cn, cb, fM, fA, fI, fB, upd fP t (nI (pp + 1)), fF, vx, bx) (nk pp) (fF t))))))))
    (h2 : pp = c → wpX_leave (fun r u => match u with | (xa, xb, xml, xsl, xfl, xrm, xsc, xfc, xmc, xus, dk, dp, df, pl, pd, pc, pf, cd, xfr, xht, kx, dx, cx, fx, tx, sp, fp, ff, ft, rt, ag, wk, nk, no, nl, cs, cn, cb, fM, fA, fI, fB, fP, fF, vx, bx) => (narrow .boolean (.int r) = .int r ∧ post r (xa, xb, xml, xsl, xfl, xrm, xsc, xfc, xmc, xus, dk, dp, df, pl, pd, pc, pf, cd, xfr, xht, kx, dx, cx, fx, tx, sp, fp, ff, ft, rt, ag, wk, nk, no, nl, cs, cn, cb, fM, fA, fI, fB, fP, fF, vx, bx))) (xa, xb, xml, xsl, xfl, xrm, xsc, xfc, xmc, xus, dk, dp, df, pl, pd, pc, pf, cd, nI (t + 1), xht, kx, dx, cx, fx, tx, sp, fp, ff, ft, rt, ag, wk, nk, no, nl, cs, cn, cb, fM, fA, fI, fB, fP, fF, vx, bx) (nI t)) : wpX_step post (xa, xb, xml, xsl, xfl, xrm, xsc, xfc, xmc, xus, dk, dp, df, pl, pd, pc, pf, cd, nI (t + 1), xht, kx, dx, cx, fx, tx, sp, fp, ff, ft, rt, ag, wk, nk, no, nl, cs, cn, cb, fM, fA, fI, fB, fP, fF, vx, bx) := by
  have it : vp_in (nI t) 128 := vp_in_nI ht (by omega)
  have ct : (nI t).toNatClampNeg = t := nI_clamp (by omega)
  have iA : vp_in (nI ((31 + q) * 8 + l)) 424 := vp_in_nI (by omega) (by omega)
  refine nm_r (nI_pred t) ⟨it, nm_r (e' := nI pp) (by rw [ct, hP]) ⟨it, nm_r (e' := nI ((31 + q) * 8 + l)) (by rw [ct, hA]) ⟨iA, ?_⟩⟩⟩
  rw [ct, nI_clamp (show (31 + q) * 8 + l < 2 ^ 31 by omega), sm_mx1 (a := tx) hl, hT, sm_mx1 (a := dx) hl]
  by_cases hlt : pp < c
  · have ip : vp_in (nI pp) 192 := vp_in_nI (by omega) (by omega)
    have cp : (nI pp).toNatClampNeg = pp := nI_clamp (by omega)
    rw [cp]
    refine br_t (nI_lt hlt (by omega)) ⟨it, nm_r (e' := upd fP t (nI (pp + 1))) (by rw [nI_1]) ⟨ip, nm_e ?_⟩⟩
    have h := h1 hlt
    exact br_c (fun e => ⟨it, iA, h.1 e⟩) (fun e => br_c (fun e2 => ⟨ip, (h.2 e).1 e2⟩) (fun e2 => br_c (fun e3 => ⟨ip, ((h.2 e).2 e2).1 e3⟩) (fun e3 => ⟨it, ((h.2 e).2 e2).2 e3⟩)))
  · exact br_f (nI_nlt (by omega) (by omega)) (h2 (by omega))
theorem sm_xpsh {post : Int32 → SX → Prop} {h : Nat} {n b : Int32} (hh : h < 512) (hp : post 1 (xa, xb, xml, xsl, xfl, xrm, xsc, xfc, xmc, xus, dk, dp, df, pl, pd, pc, pf, cd, xfr, nI (h + 1), kx, dx, cx, fx, tx, sp, fp, ff, ft, rt, ag, wk, nk, no, nl, cs, cn, cb, fM, fA, fI, fB, fP, fF, upd vx h n, upd bx h b)) : wpX_push post (xa, xb, xml, xsl, xfl, xrm, xsc, xfc, xmc, xus, dk, dp, df, pl, pd, pc, pf, cd, xfr, nI h, kx, dx, cx, fx, tx, sp, fp, ff, ft, rt, ag, wk, nk, no, nl, cs, cn, cb, fM, fA, fI, fB, fP, fF, vx, bx) n b := by
  have i : vp_in (nI h) 512 := vp_in_nI hh (by omega)
  have e : (nI h).toNatClampNeg = h := nI_clamp (by omega)
  exact br_t (nI_lt (b := 512) hh (by decide)) ⟨i, nm_r (e' := upd vx h n) (by rw [e]) ⟨i, nm_r (e' := upd bx h b) (by rw [e]) (nm_r (nI_1 h) hp)⟩⟩
theorem sm_xarm {post : Int32 → SX → Prop} {h fl : Nat} {k : Int32} (hh : h + 2 < 512) (hfl : fl ≤ h)
    (h1 : bx (h + 1) = -1 → bx h = -1 → post 1 (xa, xb, xml, xsl, xfl, xrm, xsc, xfc, xmc, xus, dk, dp, df, pl, pd, pc, pf, cd, xfr, nI (h + 1), kx, dx, cx, fx, tx, sp, fp, ff, ft, rt, ag, wk, nk, no, nl, cs, cn, cb, fM, fA, fI, fB, fP, fF, upd vx h (sm_ar k (vx h) (vx (h + 1))), bx)) (h2 : ¬ (bx (h + 1) = -1 ∧ bx h = -1) → post 0 (xa, xb, xml, xsl, xfl, xrm, xsc, xfc, xmc, xus, dk, dp, df, pl, pd, pc, pf, cd, xfr, nI (h + 2), kx, dx, cx, fx, tx, sp, fp, ff, ft, rt, ag, wk, nk, no, nl, cs, cn, cb, fM, fA, fI, fB, fP, fF, vx, bx)) : wpX_arithmetic post (xa, xb, xml, xsl, xfl, xrm, xsc, xfc, xmc, xus, dk, dp, df, pl, pd, pc, pf, cd, xfr, nI (h + 2), kx, dx, cx, fx, tx, sp, fp, ff, ft, rt, ag, wk, nk, no, nl, cs, cn, cb, fM, fA, fI, fB, fP, fF, vx, bx) k (nI fl) := by
  have ih : vp_in (nI h) 512 := vp_in_nI (by omega) (by omega)
  have ih1 : vp_in (nI (h + 1)) 512 := vp_in_nI (by omega) (by omega)
  have ch : (nI h).toNatClampNeg = h := nI_clamp (by omega)
  have ch1 : (nI (h + 1)).toNatClampNeg = h + 1 := nI_clamp (by omega)
  have e1 : nI (h + 2) - 1 = nI (h + 1) := nI_pred (h + 1)
  have e2 : nI (h + 2) - 2 = nI h := sm_s2 (by omega)
  unfold wpX_arithmetic
  dsimp only
  rw [e1, e2, ch, ch1]
  have G : ∀ x : Int32, x = sm_ar k (vx h) (vx (h + 1)) → bx (h + 1) = -1 → bx h = -1 → wX_arithmetic_107 post x xa xb xml xsl xfl xrm xsc xfc xmc xus dk dp df pl pd pc pf cd xfr (nI (h + 1)) kx dx cx fx tx sp fp ff ft rt ag wk nk no nl cs cn cb fM fA fI fB fP fF vx bx := by
    intro x hx a b
    unfold wX_arithmetic_107
    rw [nI_pred, ch]
    exact ⟨ih, nm_e (by rw [hx]; exact h1 a b)⟩
  refine br_t (nI_le hfl (by omega)) ⟨ih1, br_c (fun a => ⟨ih, br_c (fun b => ⟨ih1, nm_e ⟨ih, nm_e (nm_e (nm_e ?_))⟩⟩) (fun b => h2 fun z => b z.2)⟩) (fun a => h2 fun z => a z.1)⟩
  unfold sm_ar at G
  refine br_c (fun k2 => nm_e ?_) (fun k2 => ?_)
  · refine br_f (by rw [k2]; decide) (G _ ?_ a b)
    rw [if_pos k2]
  · refine br_c (fun k3 => nm_e (G _ ?_ a b)) (fun k3 => G _ ?_ a b)
    · rw [if_neg k2, if_pos k3]
    · rw [if_neg k2, if_neg k3]
theorem sm_xlv {post : Int32 → SX → Prop} {t q l h : Nat} (ht : t < 128) (hq : q < 16) (hl : l < 8) (hh : h < 512) (hF : fF t = nI h) (hA : fA t = nI ((31 + q) * 8 + l))
    (h1 : bx h = sm_mx cx (31 + q) l → post 1 (xa, xb, xml, xsl, xfl, xrm, xsc, xfc, xmc, xus, dk, dp, df, pl, pd, pc, pf, cd, nI t, nI (h + 1), kx, dx, cx, fx, tx, sp, fp, ff, ft, rt, ag, wk, nk, no, nl, cs, cn, cb, fM, fA, fI, fB, fP, fF, vx, upd bx h (fB t))) (h2 : ¬ bx h = sm_mx cx (31 + q) l → post 0 (xa, xb, xml, xsl, xfl, xrm, xsc, xfc, xmc, xus, dk, dp, df, pl, pd, pc, pf, cd, xfr, nI (h + 1), kx, dx, cx, fx, tx, sp, fp, ff, ft, rt, ag, wk, nk, no, nl, cs, cn, cb, fM, fA, fI, fB, fP, fF, vx, bx)) : wpX_leave post (xa, xb, xml, xsl, xfl, xrm, xsc, xfc, xmc, xus, dk, dp, df, pl, pd, pc, pf, cd, xfr, nI (h + 1), kx, dx, cx, fx, tx, sp, fp, ff, ft, rt, ag, wk, nk, no, nl, cs, cn, cb, fM, fA, fI, fB, fP, fF, vx, bx) (nI t) := by
  have it : vp_in (nI t) 128 := vp_in_nI ht (by omega)
  have ct : (nI t).toNatClampNeg = t := nI_clamp (by omega)
  have ih : vp_in (nI h) 512 := vp_in_nI (by omega) (by omega)
  have ch : (nI h).toNatClampNeg = h := nI_clamp (by omega)
  have iA : vp_in (nI ((31 + q) * 8 + l)) 424 := vp_in_nI (by omega) (by omega)
  refine ⟨it, ?_⟩
  rw [ct, hF, hA, nI_1, nI_pred, ch, nI_clamp (show (31 + q) * 8 + l < 2 ^ 31 by omega), sm_mx1 (a := cx) hl]
  exact br_t rfl ⟨ih, it, iA, br_c (fun e => ⟨it, ih, nm_e (h1 e)⟩) h2⟩
theorem sm_xcn {post : Int32 → SX → Prop} {t q mc W m' r' h fl a' : Nat} (ht : t + 1 < 128) (hq : q < 16) (hmc : mc ≤ 16) (hW : W < 2 ^ 31) (hm : m' < mc) (hr : r' < 16) (hh : h < 512) (hfl : fl ≤ h) (hM : fM t = nI q) (hF : fF t = nI fl)
    (m0 : W / 8 = 0 → m' = q ∧ r' = q) (m1 : W / 8 = 1 → ag q = nI m') (m2 : 2 ≤ W / 8 → m' = W / 8 - 2) (hrt : rt m' = nI r') (hfx : sm_mx fx (31 + r') (W % 8) = nI a')
    (h1 : bx h = (if W / 8 = 0 then sm_mx dx (31 + q) (W % 8) else sm_mx dx (9 + m') (W % 8)) → post 1 (xa, xb, xml, xsl, xfl, xrm, xsc, xfc, nI mc, xus, dk, dp, df, pl, pd, pc, pf, cd, nI (t + 1 + 1), nI h, kx, dx, cx, fx, tx, sp, fp, ff, ft, rt, ag, wk, nk, no, nl, cs, cn, cb, upd fM (t + 1) (nI r'), upd fA (t + 1) (nI ((31 + r') * 8 + W % 8)), upd fI (t + 1) (vx h), upd fB (t + 1) (if W / 8 = 0 then sm_mx cx (31 + q) (W % 8) else sm_mx cx (9 + m') (W % 8)), upd fP (t + 1) (nI a'), upd fF (t + 1) (nI h), vx, bx))
    (h2 : ¬ bx h = (if W / 8 = 0 then sm_mx dx (31 + q) (W % 8) else sm_mx dx (9 + m') (W % 8)) → post 0 (xa, xb, xml, xsl, xfl, xrm, xsc, xfc, nI mc, xus, dk, dp, df, pl, pd, pc, pf, cd, nI (t + 1), nI h, kx, dx, cx, fx, tx, sp, fp, ff, ft, rt, ag, wk, nk, no, nl, cs, cn, cb, fM, fA, fI, fB, fP, fF, vx, bx)) : wpX_callNode post (xa, xb, xml, xsl, xfl, xrm, xsc, xfc, nI mc, xus, dk, dp, df, pl, pd, pc, pf, cd, nI (t + 1), nI (h + 1), kx, dx, cx, fx, tx, sp, fp, ff, ft, rt, ag, wk, nk, no, nl, cs, cn, cb, fM, fA, fI, fB, fP, fF, vx, bx) (nI t) (nI W) := by
  have it : vp_in (nI t) 128 := vp_in_nI (by omega) (by omega)
  have ct : (nI t).toNatClampNeg = t := nI_clamp (by omega)
  have ih : vp_in (nI h) 512 := vp_in_nI (by omega) (by omega)
  have ch : (nI h).toNatClampNeg = h := nI_clamp (by omega)
  have hl : W % 8 < 8 := Nat.mod_lt _ (by decide)
  refine ⟨it, ?_⟩
  rw [ct, hF, hM]
  refine br_t (nI_lt (by omega) (by omega)) ⟨it, sm_xcal hq hW (fun z => (m0 z).1) m1 m2 (sm_xex1 (by omega) hm (br_f (by decide) (nm_r (nI_pred h) ⟨sm_80, ?_⟩)))⟩
  rw [sm_q8 hW, sm_d8 hW, ch]
  by_cases z : W / 8 = 0
  · obtain ⟨e1, e2⟩ := m0 z
    rw [if_pos z, if_pos z] at h1
    rw [if_pos z] at h2
    subst e1
    subst e2
    refine br_t (by rw [z]; rfl) ⟨sm_80, ih, ih, sm_xinside (by omega) (by omega) hl hfx (fun e => ⟨rfl, h1 e⟩) (fun e => ⟨rfl, h2 e⟩)⟩
  · rw [if_neg z, if_neg z] at h1
    rw [if_neg z] at h2
    refine br_f (nI_ne0 (by omega) (by omega)) ⟨sm_80, ih, ih, sm_xrun (by omega) (by omega) hr hl hrt hfx (fun e => ⟨rfl, h1 e⟩) (fun e => ⟨rfl, h2 e⟩)⟩
end sm_X
end
section
def sm_Cal (kx fo rt ag nk no : Nat → Int32) (cost rk : Nat → Nat) (mc q l i : Nat) : Prop :=
  ∃ W m r, W < 2 ^ 31 ∧ no i = nI W ∧ ((W / 8 = 0 → m = q ∧ r = q) ∧ (W / 8 = 1 → ag q = nI m ∧ fo (9 + q) = nI (9 + m)) ∧ (2 ≤ W / 8 → m = W / 8 - 2)) ∧ m < mc ∧ r ≤ m ∧ rt m = nI r ∧ rt r = nI r ∧ sm_mx kx (31 + r) (W % 8) = 2 ∧ (W / 8 ≠ 0 → sm_mx kx (9 + m) (W % 8) = 2) ∧ rk (8 * r + W % 8) < rk (8 * q + l) ∧ sm_nc nk no rt ag cost q i = cost (8 * r + W % 8)
def sm_Opq (kx dx cx fx tx d1 d2 bo fo rt ag nk no nl nbd : Nat → Int32) (cost rk : Nat → Nat) (mc us q l a c b : Nat) : Prop :=
  (q < mc ∧ l < 8 ∧ rt q = nI q ∧ sm_mx kx (31 + q) l = 2) ∧ (b < 22 ∧ bo (9 + q) = nI b ∧ sm_mx fx (31 + q) l = nI a ∧ sm_mx tx (31 + q) l = nI c) ∧ (a < c ∧ c ≤ us) ∧
  (∀ k, k < us → ((nbd k = nI b ∧ nl k = nI l) ↔ (a ≤ k ∧ k < c))) ∧ sm_Dp nk a c ∧ sm_sd nk a (c - a) = 1 ∧ sm_CQ nk no rt ag cost q l a c ∧
  (sm_mx dx (31 + q) l = sm_sb d1 fo (9 + q) (sm_mx d1 (31 + b) l) ∧ sm_mx cx (31 + q) l = sm_sb d1 fo (9 + q) (sm_mx d2 (31 + b) l)) ∧ (fo (9 + q) = -1 ∨ ∃ mm, mm < 53 ∧ fo (9 + q) = nI mm) ∧
  ∀ i, a ≤ i → i < c → nk i = 5 → sm_Cal kx fo rt ag nk no cost rk mc q l i
section sm_R
variable {ML SL FL RM sc fc mc us nb : Nat} {xa xb dk dp df pl pd pc pf cd xfr xht ydp yfr yht yst yfa : Int32} {kx dx cx fx tx sp fp ff ft rt ag wk nk no nl cs cn cb fM fA fI fB fP fF vx bx md mo ky d1 d2 po bo fo nbd ck rA rN rD rC rO rX vY bY : Nat → Int32}
variable {uc : Nat} {cost rk : Nat → Nat}
theorem sm_opq_of {q l : Nat} (hN : sm_Num ML SL FL RM sc fc mc nb md mo) (hC : sm_CL sc fc mc uc nb cost rk kx dx cx fx tx sp fp ff ft rt ag wk nk no nl ky d1 d2 po bo fo nbd) (hD : sm_DR kx dx cx fx tx sp nk no nl ky d1 d2 po nbd cs sc mc uc us nb RM dk dp df pl pd pc pf cd) (hq : q < mc) (hl : l < 8) (hrt : rt q = nI q) (hk : sm_mx kx (31 + q) l = 2) : ∃ a c b, sm_Opq kx dx cx fx tx d1 d2 bo fo rt ag nk no nl nbd cost rk mc us q l a c b ∧ rk (8 * q + l) ≤ 127 := by
  obtain ⟨⟨n1, n2, n3, n4, n5, n6, n7⟩, ⟨hsc, hmc, hfc, hnb⟩, _, _⟩ := hN
  obtain ⟨⟨u1, u2⟩, hG, _⟩ := hD
  have Md := hC.2.2.2.1
  obtain ⟨_, _, r, hr, e1, _, _, _, h5⟩ := Md q hq
  have er : r = q := sm_inj (e1.symm.trans hrt) (by omega) (by omega)
  obtain ⟨b, hbn, g1, g2, g3, g4⟩ := h5 er
  obtain ⟨k1, k2, k3, k4⟩ := g4 l hl hk
  obtain ⟨a, c, f1, f2, ⟨o1, o2, o3⟩, o4, o5, hCa, hQ⟩ := g3 l hl hk
  have hac : a < c := by
    refine Nat.lt_of_not_le fun z => ?_
    have : c - a = 0 := by omega
    rw [this] at o5
    exact absurd o5 (show ¬ (0 : Nat) = 1 by omega)
  refine ⟨a, c, b, ⟨⟨hq, hl, hrt, hk⟩, ⟨by omega, g1, f1, f2⟩, ⟨hac, by omega⟩, fun k hk' => ?_, o4, o5, hQ, ⟨k3, k4⟩, g2.imp (fun z => z.2) (fun ⟨a', h1, _, h3⟩ => ⟨9 + a', by omega, h3⟩), fun i i1 i2 i5 => ?_⟩, by omega⟩
  · by_cases z : k < uc
    · exact o3 k z
    · constructor
      · intro w
        rw [hG k (by omega) hk'] at w
        have := sm_inj w.1 (by omega) (by omega)
        omega
      · intro w; omega
  · obtain ⟨W, hW, eW, x0, x1, x2⟩ := hCa i i1 i2 i5
    have hW8 : W % 8 < 8 := Nat.mod_lt _ (by decide)
    have hnc : sm_nc nk no rt ag cost q i = cost (8 * sm_ce rt ag q W + W % 8) := by
      unfold sm_nc
      rw [if_pos i5, eW, nI_clamp hW]
    by_cases z0 : W / 8 = 0
    · obtain ⟨y1, y2, _⟩ := x0 z0
      have ece : sm_ce rt ag q W = q := if_pos z0
      rw [ece] at hnc
      exact ⟨W, q, q, hW, eW, ⟨fun _ => ⟨rfl, rfl⟩, fun z => by omega, fun z => by omega⟩, hq, Nat.le_refl _, hrt, hrt, y1, fun z => absurd z0 z, y2, hnc⟩
    · have fin : ∀ m, m < q → sm_mx kx (9 + m) (W % 8) = 2 → ((W / 8 = 1 → ag q = nI m ∧ fo (9 + q) = nI (9 + m)) ∧ (2 ≤ W / 8 → m = W / 8 - 2)) → sm_ce rt ag q W = sm_ro rt m → sm_Cal kx fo rt ag nk no cost rk mc q l i := by
        intro m hm ek hmm ece
        obtain ⟨r', hr', er1, er2, er3, _⟩ := sm_callee (by omega) Md (show m < mc by omega) hW8 ek
        obtain ⟨_, _, r2, _, e1', _, _, _, h5'⟩ := Md r' (by omega)
        have er' : r2 = r' := sm_inj (e1'.symm.trans er2) (by omega) (by omega)
        obtain ⟨b', _, _, _, _, g4'⟩ := h5' er'
        have := (g4' _ hW8 er3).1
        have ero : sm_ro rt m = r' := by unfold sm_ro; rw [er1, nI_clamp (by omega)]
        rw [ece, ero] at hnc
        exact ⟨W, m, r', hW, eW, ⟨fun z => absurd z z0, hmm.1, hmm.2⟩, by omega, hr', er1, er2, er3, fun _ => ek, by omega, hnc⟩
      by_cases z1 : W / 8 = 1
      · obtain ⟨a', h1, h2, h3⟩ := x1 z1
        refine fin a' h1 h3 ⟨fun _ => ⟨h2, ?_⟩, fun z => by omega⟩ ?_
        · rcases g2 with ⟨w, _⟩ | ⟨a2, h1', h2', h3'⟩
          · rw [w] at h2; exact absurd h2.symm (sm_ne1 (by omega))
          · have := sm_inj (h2.symm.trans h2') (by omega) (by omega)
            rw [this]; exact h3'
        · unfold sm_ce
          rw [if_neg z0, if_pos z1, h2, nI_clamp (by omega)]
      · obtain ⟨h1, h3⟩ := x2 (by omega)
        refine fin _ h1 h3 ⟨fun z => absurd z z1, fun _ => rfl⟩ ?_
        unfold sm_ce
        rw [if_neg z0, if_neg z1]
theorem sm_chain {m r : Nat} (hN : sm_Num ML SL FL RM sc fc mc nb md mo) (hC : sm_CL sc fc mc uc nb cost rk kx dx cx fx tx sp fp ff ft rt ag wk nk no nl ky d1 d2 po bo fo nbd) (hm : m < mc) : ∀ mm, mm ≤ m → rt mm = nI r → r < 16 → mm = r ∨ (bo (9 + mm) = -1 ∧ ∃ m2, m2 < mm ∧ r ≤ m2 ∧ fo (9 + mm) = nI (9 + m2) ∧ rt m2 = nI r) := by
  obtain ⟨⟨n1, n2, n3, n4, n5, n6, n7⟩, ⟨hsc, hmc, hfc, hnb⟩, _, _⟩ := hN
  have Md := hC.2.2.2.1
  intro mm hmm hrt hr16
  obtain ⟨_, _, r', hr', e1, _, _, h4, _⟩ := Md mm (by omega)
  have er : r' = r := sm_inj (e1.symm.trans hrt) (by omega) (by omega)
  subst er
  by_cases z : r' = mm
  · exact Or.inl z.symm
  · obtain ⟨q1, m2, q2, q3, q4⟩ := h4 z
    obtain ⟨_, _, r2, hr2, e2, _⟩ := Md m2 (by omega)
    have er : r2 = r' := sm_inj (e2.symm.trans q4) (by omega) (by omega)
    exact Or.inr ⟨q1, m2, q2, by omega, q3, q4⟩
end sm_R
/-! the machine's invariant -/
def sm_un (f : Nat → Nat) (k x : Nat) : Nat → Nat := fun j => if j = k then x else f j
theorem sm_us {f : Nat → Nat} {k x : Nat} : sm_un f k x k = x := if_pos rfl
theorem sm_uno {f : Nat → Nat} {k x j : Nat} (h : j ≠ k) : sm_un f k x j = f j := if_neg h
theorem sm_S_head {g : Nat → Nat} : ∀ n a, sm_S g a (n + 1) = g a + sm_S g (a + 1) n := by
  intro n
  induction n with
  | zero => intro a; show 0 + g a = g a + 0; omega
  | succ n ih =>
    intro a
    show sm_S g a (n + 1) + g (a + (n + 1)) = g a + (sm_S g (a + 1) n + g (a + 1 + n))
    rw [ih a, show a + (n + 1) = a + 1 + n by omega]
    omega
def sm_MI (kx dx cx fx tx d1 d2 bo fo rt ag nk no nl nbd : Nat → Int32) (cost rk : Nat → Nat) (mc us f h st tot : Nat) (Q L A C B P F : Nat → Nat) : Prop :=
  (∀ i, i < f → sm_Opq kx dx cx fx tx d1 d2 bo fo rt ag nk no nl nbd cost rk mc us (Q i) (L i) (A i) (C i) (B i) ∧ A i ≤ P i ∧ P i ≤ C i ∧ rk (8 * Q i + L i) + i ≤ 127 ∧ F i ≤ 3 * i) ∧
  (∀ i, i + 1 < f → F (i + 1) + 1 = F i + sm_sd nk (A i) (P i - A i)) ∧ F 0 = 0 ∧ (f = 0 → h = 1) ∧ (∀ t, f = t + 1 → h = F t + sm_sd nk (A t) (P t - A t)) ∧
  st + sm_S (fun i => sm_S (fun k => 1 + sm_nc nk no rt ag cost (Q i) k) (P i) (C i - P i)) 0 f = tot
section sm_P
variable {kx dx cx fx tx d1 d2 bo fo rt ag nk no nl nbd : Nat → Int32} {cost rk : Nat → Nat} {mc us h st tot t : Nat} {Q L A C B P F : Nat → Nat}
theorem sm_MI_sd {f i : Nat} (M : sm_MI kx dx cx fx tx d1 d2 bo fo rt ag nk no nl nbd cost rk mc us f h st tot Q L A C B P F) (hi : i < f) : sm_sd nk (A i) (P i - A i) ≤ 4 := by
  obtain ⟨⟨_, _, ⟨o1, o2⟩, _, o4, _⟩, p1, p2, _⟩ := M.1 i hi
  exact sm_sd_le _ fun m hm => o4 m (by omega)
theorem sm_MI_step {h' : Nat} (M : sm_MI kx dx cx fx tx d1 d2 bo fo rt ag nk no nl nbd cost rk mc us (t + 1) h st tot Q L A C B P F) (hp : P t < C t) (h5 : ¬ nk (P t) = 5) (hh : h' = F t + sm_st (nk (P t)) (sm_sd nk (A t) (P t - A t))) : sm_MI kx dx cx fx tx d1 d2 bo fo rt ag nk no nl nbd cost rk mc us (t + 1) h' (st + 1) tot Q L A C B (sm_un P t (P t + 1)) F := by
  obtain ⟨m1, m2, m3, m4, m5, m6⟩ := M
  obtain ⟨q1, q2, q3, q4, q5⟩ := m1 t (by omega)
  have e : ∀ i, i ≠ t → sm_un P t (P t + 1) i = P i := fun i hi => sm_uno hi
  refine ⟨fun i hi => ?_, fun i hi => ?_, m3, fun z => by omega, fun t' ht => ?_, ?_⟩
  · by_cases z : i = t
    · subst z
      rw [sm_us]
      exact ⟨q1, by omega, by omega, q4, q5⟩
    · rw [e i z]; exact m1 i hi
  · rw [e i (by omega)]; exact m2 i hi
  · have et : t' = t := by omega
    subst et
    rw [sm_us, hh, show P t' + 1 - A t' = P t' - A t' + 1 by omega, sm_sd_s, show A t' + (P t' - A t') = P t' by omega]
  · rw [← m6]
    show st + 1 + (sm_S _ 0 t + sm_S _ (sm_un P t (P t + 1) (0 + t)) (C (0 + t) - sm_un P t (P t + 1) (0 + t))) = st + (sm_S _ 0 t + sm_S _ (P (0 + t)) (C (0 + t) - P (0 + t)))
    rw [Nat.zero_add, sm_us, sm_S_congr (g := fun i => sm_S (fun k => 1 + sm_nc nk no rt ag cost (Q i) k) (P i) (C i - P i)) (g' := fun i => sm_S (fun k => 1 + sm_nc nk no rt ag cost (Q i) k) (sm_un P t (P t + 1) i) (C i - sm_un P t (P t + 1) i)) t (fun i i1 i2 => by rw [e i (by omega)]), show C t - P t = C t - (P t + 1) + 1 by omega, sm_S_head]
    have n0 : sm_nc nk no rt ag cost (Q t) (P t) = 0 := if_neg h5
    rw [n0]
    omega
theorem sm_MI_leave (M : sm_MI kx dx cx fx tx d1 d2 bo fo rt ag nk no nl nbd cost rk mc us (t + 1) h st tot Q L A C B P F) (hp : P t = C t) : sm_MI kx dx cx fx tx d1 d2 bo fo rt ag nk no nl nbd cost rk mc us t h st tot Q L A C B P F ∧ h = F t + 1 := by
  obtain ⟨m1, m2, m3, m4, m5, m6⟩ := M
  obtain ⟨⟨_, _, ⟨o1, o2⟩, _, _, o5, _⟩, q2, q3, q4, q5⟩ := m1 t (by omega)
  have hh := m5 t rfl
  rw [hp, o5] at hh
  refine ⟨⟨fun i hi => m1 i (by omega), fun i hi => m2 i (by omega), m3, fun z => ?_, fun t' ht => ?_, ?_⟩, hh⟩
  · subst z; omega
  · subst ht
    have := m2 t' (by omega)
    omega
  · rw [← m6]
    show _ = st + (sm_S _ 0 t + sm_S _ (P (0 + t)) (C (0 + t) - P (0 + t)))
    rw [Nat.zero_add, hp, Nat.sub_self]
    rfl
theorem sm_MI_call {r' l' a' c' b' : Nat} (M : sm_MI kx dx cx fx tx d1 d2 bo fo rt ag nk no nl nbd cost rk mc us (t + 1) h st tot Q L A C B P F) (hp : P t < C t) (h5 : nk (P t) = 5) (O : sm_Opq kx dx cx fx tx d1 d2 bo fo rt ag nk no nl nbd cost rk mc us r' l' a' c' b') (hrk : rk (8 * r' + l') < rk (8 * Q t + L t)) (hnc : sm_nc nk no rt ag cost (Q t) (P t) = cost (8 * r' + l')) :
    sm_MI kx dx cx fx tx d1 d2 bo fo rt ag nk no nl nbd cost rk mc us (t + 2) (h - 1) (st + 1) tot (sm_un Q (t + 1) r') (sm_un L (t + 1) l') (sm_un A (t + 1) a') (sm_un C (t + 1) c') (sm_un B (t + 1) b') (sm_un (sm_un P t (P t + 1)) (t + 1) a') (sm_un F (t + 1) (h - 1)) ∧ 1 ≤ h ∧ F t ≤ h - 1 ∧ t + 1 < 128 := by
  have hsd := sm_MI_sd M (show t < t + 1 by omega)
  obtain ⟨m1, m2, m3, m4, m5, m6⟩ := M
  obtain ⟨q1, q2, q3, q4, q5⟩ := m1 t (by omega)
  have O' := O
  obtain ⟨_, _, ⟨o1', o2'⟩, _, _, _, oQ, _⟩ := O'
  have q1' := q1
  obtain ⟨_, _, ⟨o1, o2⟩, _, o4, o5, _⟩ := q1'
  have ok := o4 (P t - A t) (by omega)
  rw [show A t + (P t - A t) = P t by omega, h5] at ok
  have hh := m5 t rfl
  have ok5 := sm_ok5 ok
  have nx : sm_sd nk (A t) (P t + 1 - A t) = sm_sd nk (A t) (P t - A t) := by
    rw [show P t + 1 - A t = P t - A t + 1 by omega, sm_sd_s, show A t + (P t - A t) = P t by omega, h5]
    exact ok5.2
  refine ⟨⟨fun i hi => ?_, fun i hi => ?_, ?_, fun z => by omega, fun t' ht => ?_, ?_⟩, by omega, by omega, by omega⟩
  · by_cases z : i = t + 1
    · subst z
      rw [sm_us, sm_us, sm_us, sm_us, sm_us, sm_us, sm_us]
      exact ⟨O, Nat.le_refl _, by omega, by omega, by omega⟩
    · rw [sm_uno z, sm_uno z, sm_uno z, sm_uno z, sm_uno z, sm_uno z, sm_uno z]
      by_cases y : i = t
      · subst y
        rw [sm_us]
        exact ⟨q1, by omega, by omega, q4, q5⟩
      · rw [sm_uno y]; exact m1 i (by omega)
  · rw [sm_uno (show i ≠ t + 1 by omega), sm_uno (show i ≠ t + 1 by omega), sm_uno (show i ≠ t + 1 by omega)]
    by_cases y : i = t
    · subst y
      rw [sm_us, sm_us, nx]
      omega
    · rw [sm_uno (show i + 1 ≠ t + 1 by omega), sm_uno y]; exact m2 i (by omega)
  · rw [sm_uno (by omega)]; exact m3
  · have et : t' = t + 1 := by omega
    subst et
    rw [sm_us, sm_us, sm_us, Nat.sub_self]
    rfl
  · rw [← m6]
    show st + 1 + ((sm_S _ 0 t + sm_S (fun k => 1 + sm_nc nk no rt ag cost (sm_un Q (t + 1) r' (0 + t)) k) (sm_un (sm_un P t (P t + 1)) (t + 1) a' (0 + t)) (sm_un C (t + 1) c' (0 + t) - sm_un (sm_un P t (P t + 1)) (t + 1) a' (0 + t))) + sm_S (fun k => 1 + sm_nc nk no rt ag cost (sm_un Q (t + 1) r' (0 + (t + 1))) k) (sm_un (sm_un P t (P t + 1)) (t + 1) a' (0 + (t + 1))) (sm_un C (t + 1) c' (0 + (t + 1)) - sm_un (sm_un P t (P t + 1)) (t + 1) a' (0 + (t + 1)))) = st + (sm_S _ 0 t + sm_S (fun k => 1 + sm_nc nk no rt ag cost (Q (0 + t)) k) (P (0 + t)) (C (0 + t) - P (0 + t)))
    rw [Nat.zero_add, Nat.zero_add, sm_us, sm_us, sm_us, sm_uno (show t ≠ t + 1 by omega), sm_uno (show t ≠ t + 1 by omega), sm_uno (show t ≠ t + 1 by omega), sm_us]
    rw [sm_S_congr (g := fun i => sm_S (fun k => 1 + sm_nc nk no rt ag cost (Q i) k) (P i) (C i - P i)) (g' := fun i => sm_S (fun k => 1 + sm_nc nk no rt ag cost (sm_un Q (t + 1) r' i) k) (sm_un (sm_un P t (P t + 1)) (t + 1) a' i) (sm_un C (t + 1) c' i - sm_un (sm_un P t (P t + 1)) (t + 1) a' i)) t (fun i i1 i2 => by
      rw [sm_uno (show i ≠ t + 1 by omega), sm_uno (show i ≠ t + 1 by omega), sm_uno (show i ≠ t + 1 by omega), sm_uno (show i ≠ t by omega)])]
    rw [show C t - P t = C t - (P t + 1) + 1 by omega, sm_S_head]
    unfold sm_CQ at oQ
    rw [← oQ]
    rw [hnc]
    omega
end sm_P
end
section
def sm_YA (f : Nat) (Q L A P : Nat → Nat) (rA rX : Nat → Int32) : Prop := ∀ i, i < f → rA i = nI (8 * (9 + Q i) + L i) ∧ ∃ x, rX i = nI x ∧ x ≤ P i ∧ (x = P i ∨ P i = A i)
theorem sm_YA_step {t : Nat} {Q L A P : Nat → Nat} {rA rX : Nat → Int32} (Y : sm_YA (t + 1) Q L A P rA rX) : sm_YA (t + 1) Q L A (sm_un P t (P t + 1)) rA (upd rX t (nI (P t + 1))) := by
  intro i hi
  obtain ⟨y1, x, y2, y3, y4⟩ := Y i hi
  by_cases z : i = t
  · subst z
    exact ⟨y1, P i + 1, pk_us, by rw [sm_us]; exact Nat.le_refl _, Or.inl sm_us.symm⟩
  · exact ⟨y1, x, by rw [pk_un z]; exact y2, by rw [sm_uno z]; exact y3, by rw [sm_uno z]; exact y4⟩
section sm_R
variable {ML SL FL RM sc fc mc us nb : Nat} {xa xb dk dp df pl pd pc pf cd xfr xht ydp yfr yht yst yfa : Int32} {kx dx cx fx tx sp fp ff ft rt ag wk nk no nl cs cn cb fM fA fI fB fP fF vx bx md mo ky d1 d2 po bo fo nbd ck rA rN rD rC rO rX vY bY : Nat → Int32}
variable {uc h st tot t : Nat} {cost rk : Nat → Nat} {Q L A C B P F : Nat → Nat}
theorem sm_yadv1 {post : SY → Prop} (hmc : mc ≤ 16) (hus : us ≤ 192) (M : sm_MI kx dx cx fx tx d1 d2 bo fo rt ag nk no nl nbd cost rk mc us (t + 1) h st tot Q L A C B P F) (Y : sm_YA (t + 1) Q L A P rA rX) (hp : P t < C t) (h71 : wY_advance_71 post (nI t) (nI (9 + Q t)) (nI (P t)) (nI RM) (nI nb) (nI us) dk pl pd pc ydp (nI (t + 1)) yht yst yfa md mo ky d1 d2 po bo fo nk no nbd nl cn cb ck rA rN rD rC rO rX vY bY) : wpY_advance post (nI RM, nI nb, nI us, dk, pl, pd, pc, ydp, nI (t + 1), yht, yst, yfa, md, mo, ky, d1, d2, po, bo, fo, nk, no, nbd, nl, cn, cb, ck, rA, rN, rD, rC, rO, rX, vY, bY) := by
  obtain ⟨⟨⟨o1, o2, o3, o4⟩, ⟨b1, b2, b3, b4⟩, ⟨o5, o6⟩, o7, _⟩, q2, q3, q4, q5⟩ := M.1 t (by omega)
  obtain ⟨y1, x, y2, y3, y4⟩ := Y t (by omega)
  refine sm_yadv (x := x) (e := P t) (by omega) (by omega) o2 hus y1 y2 b2 (Or.inr ⟨by omega, (o7 (P t) (by omega)).mpr ⟨q2, hp⟩⟩) y3 (fun k k1 k2 z => ?_) h71
  have := (o7 k (by omega)).mp z
  omega
theorem sm_yadv2 {post : SY → Prop} (hmc : mc ≤ 16) (hus : us ≤ 192) (M : sm_MI kx dx cx fx tx d1 d2 bo fo rt ag nk no nl nbd cost rk mc us (t + 1) h st tot Q L A C B P F) (Y : sm_YA (t + 1) Q L A P rA rX) (hp : P t = C t) (h71 : wY_advance_71 post (nI t) (nI (9 + Q t)) (nI us) (nI RM) (nI nb) (nI us) dk pl pd pc ydp (nI (t + 1)) yht yst yfa md mo ky d1 d2 po bo fo nk no nbd nl cn cb ck rA rN rD rC rO rX vY bY) : wpY_advance post (nI RM, nI nb, nI us, dk, pl, pd, pc, ydp, nI (t + 1), yht, yst, yfa, md, mo, ky, d1, d2, po, bo, fo, nk, no, nbd, nl, cn, cb, ck, rA, rN, rD, rC, rO, rX, vY, bY) := by
  obtain ⟨⟨⟨o1, o2, o3, o4⟩, ⟨b1, b2, b3, b4⟩, ⟨o5, o6⟩, o7, _⟩, q2, q3, q4, q5⟩ := M.1 t (by omega)
  obtain ⟨y1, x, y2, y3, y4⟩ := Y t (by omega)
  refine sm_yadv (x := x) (e := us) (by omega) (by omega) o2 hus y1 y2 b2 (Or.inl rfl) (by omega) (fun k k1 k2 z => ?_) h71
  have := (o7 k k2).mp z
  omega
theorem sm_MI_h (M : sm_MI kx dx cx fx tx d1 d2 bo fo rt ag nk no nl nbd cost rk mc us (t + 1) h st tot Q L A C B P F) : t < 128 ∧ h ≤ 3 * t + 4 ∧ h = F t + sm_sd nk (A t) (P t - A t) ∧ (P t < C t → sm_ok (nk (P t)) (sm_sd nk (A t) (P t - A t))) := by
  have hsd := sm_MI_sd M (show t < t + 1 by omega)
  obtain ⟨m1, m2, m3, m4, m5, m6⟩ := M
  obtain ⟨⟨_, _, ⟨o1, o2⟩, _, o4, _⟩, q2, q3, q4, q5⟩ := m1 t (by omega)
  have hh := m5 t rfl
  refine ⟨by omega, by omega, hh, fun z => ?_⟩
  have := o4 (P t - A t) (by omega)
  rw [show A t + (P t - A t) = P t by omega] at this
  exact this
theorem sm_yc_p (hmc : mc ≤ 16) (hus : us ≤ 192) (M : sm_MI kx dx cx fx tx d1 d2 bo fo rt ag nk no nl nbd cost rk mc us (t + 1) h st tot Q L A C B P F) (Y : sm_YA (t + 1) Q L A P rA rX) (hp : P t < C t) (hk : nk (P t) = 0 ∨ nk (P t) = 1) :
    (∀ post : SY → Prop, post (nI RM, nI nb, nI us, dk, pl, pd, pc, ydp, nI (t + 1), nI (h + 1), nI (st + 1), yfa, md, mo, ky, d1, d2, po, bo, fo, nk, no, nbd, nl, cn, cb, ck, rA, rN, rD, rC, rO, upd rX t (nI (P t + 1)), upd vY h (if nk (P t) = 0 then rN t else no (P t)), upd bY h (if nk (P t) = 0 then rD t else -1)) → wpY_advance post (nI RM, nI nb, nI us, dk, pl, pd, pc, ydp, nI (t + 1), nI h, nI st, yfa, md, mo, ky, d1, d2, po, bo, fo, nk, no, nbd, nl, cn, cb, ck, rA, rN, rD, rC, rO, rX, vY, bY)) ∧
    sm_MI kx dx cx fx tx d1 d2 bo fo rt ag nk no nl nbd cost rk mc us (t + 1) (h + 1) (st + 1) tot Q L A C B (sm_un P t (P t + 1)) F ∧ sm_YA (t + 1) Q L A (sm_un P t (P t + 1)) rA (upd rX t (nI (P t + 1))) := by
  obtain ⟨h1, h2, h3, h4⟩ := sm_MI_h M
  have ho := sm_ok0 hk (h4 hp)
  have hc := (M.1 t (by omega)).1.2.2.1.2
  refine ⟨fun post hpost => sm_yadv1 hmc hus M Y hp (sm_y71p h1 (by omega) hus (by omega) hk hpost), sm_MI_step M hp ?_ (by omega), sm_YA_step Y⟩
  rcases hk with e | e <;> rw [e] <;> decide
theorem sm_yc_a (hmc : mc ≤ 16) (hus : us ≤ 192) (M : sm_MI kx dx cx fx tx d1 d2 bo fo rt ag nk no nl nbd cost rk mc us (t + 1) (h + 2) st tot Q L A C B P F) (Y : sm_YA (t + 1) Q L A P rA rX) (hp : P t < C t) (k0 : ¬ nk (P t) = 0) (k1 : ¬ nk (P t) = 1) (k5 : ¬ nk (P t) = 5) :
    (∀ post : SY → Prop, post (nI RM, nI nb, nI us, dk, pl, pd, pc, ydp, nI (t + 1), nI (h + 1), nI (st + 1), sm_fa (sm_fa yfa (bY h) (-1)) (bY (h + 1)) (-1), md, mo, ky, d1, d2, po, bo, fo, nk, no, nbd, nl, cn, cb, ck, rA, rN, rD, rC, rO, upd rX t (nI (P t + 1)), upd vY h (sm_ar (nk (P t)) (vY h) (vY (h + 1))), upd bY h (-1)) → wpY_advance post (nI RM, nI nb, nI us, dk, pl, pd, pc, ydp, nI (t + 1), nI (h + 2), nI st, yfa, md, mo, ky, d1, d2, po, bo, fo, nk, no, nbd, nl, cn, cb, ck, rA, rN, rD, rC, rO, rX, vY, bY)) ∧
    sm_MI kx dx cx fx tx d1 d2 bo fo rt ag nk no nl nbd cost rk mc us (t + 1) (h + 1) (st + 1) tot Q L A C B (sm_un P t (P t + 1)) F ∧ sm_YA (t + 1) Q L A (sm_un P t (P t + 1)) rA (upd rX t (nI (P t + 1))) := by
  obtain ⟨h1, h2, h3, h4⟩ := sm_MI_h M
  have ho := sm_oka k0 k1 k5 (h4 hp)
  have hc := (M.1 t (by omega)).1.2.2.1.2
  exact ⟨fun post hpost => sm_yadv1 hmc hus M Y hp (sm_y71a h1 (by omega) hus (by omega) k0 k1 k5 hpost), sm_MI_step M hp k5 (by omega), sm_YA_step Y⟩
theorem sm_yc_l (hmc : mc ≤ 16) (hus : us ≤ 192) (M : sm_MI kx dx cx fx tx d1 d2 bo fo rt ag nk no nl nbd cost rk mc us (t + 1) (h + 1) st tot Q L A C B P F) (Y : sm_YA (t + 1) Q L A P rA rX) (hp : P t = C t) :
    (∀ post : SY → Prop, post (nI RM, nI nb, nI us, dk, pl, pd, pc, ydp, nI t, nI (h + 1), nI st, sm_fa yfa (bY h) (rC t), md, mo, ky, d1, d2, po, bo, fo, nk, no, nbd, nl, cn, cb, ck, rA, rN, rD, rC, rO, rX, vY, upd bY h (rO t)) → wpY_advance post (nI RM, nI nb, nI us, dk, pl, pd, pc, ydp, nI (t + 1), nI (h + 1), nI st, yfa, md, mo, ky, d1, d2, po, bo, fo, nk, no, nbd, nl, cn, cb, ck, rA, rN, rD, rC, rO, rX, vY, bY)) ∧
    sm_MI kx dx cx fx tx d1 d2 bo fo rt ag nk no nl nbd cost rk mc us t (h + 1) st tot Q L A C B P F ∧ sm_YA t Q L A P rA rX ∧ F t = h := by
  obtain ⟨h1, h2, h3, h4⟩ := sm_MI_h M
  obtain ⟨l1, l2⟩ := sm_MI_leave M hp
  exact ⟨fun post hpost => sm_yadv2 hmc hus M Y hp (sm_y71l h1 hus (by omega) hpost), l1, fun i hi => Y i (by omega), by omega⟩
theorem sm_yc_c (hN : sm_Num ML SL FL RM sc fc mc nb md mo) (hC : sm_CL sc fc mc uc nb cost rk kx dx cx fx tx sp fp ff ft rt ag wk nk no nl ky d1 d2 po bo fo nbd) (hD : sm_DR kx dx cx fx tx sp nk no nl ky d1 d2 po nbd cs sc mc uc us nb RM dk dp df pl pd pc pf cd) (M : sm_MI kx dx cx fx tx d1 d2 bo fo rt ag nk no nl nbd cost rk mc us (t + 1) (h + 1) st tot Q L A C B P F) (Y : sm_YA (t + 1) Q L A P rA rX) (hp : P t < C t) (k5 : nk (P t) = 5) :
    ∃ W m r a c b, (W < 2 ^ 31 ∧ no (P t) = nI W ∧ m < mc ∧ r ≤ m ∧ rt m = nI r ∧ sm_mx fx (31 + r) (W % 8) = nI a ∧ (W / 8 ≠ 0 → sm_mx kx (9 + m) (W % 8) = 2)) ∧ ((W / 8 = 0 → m = Q t ∧ r = Q t) ∧ (W / 8 = 1 → ag (Q t) = nI m) ∧ (2 ≤ W / 8 → m = W / 8 - 2)) ∧
    (∀ post : SY → Prop, post (nI RM, nI nb, nI us, dk, pl, pd, pc, ydp, nI (t + 1 + 1), nI h, nI (st + 1), sm_fa yfa (bY h) (if W / 8 = 0 then sm_mx dx (31 + r) (W % 8) else sm_mx d1 (9 + m) (W % 8)), md, mo, ky, d1, d2, po, bo, fo, nk, no, nbd, nl, cn, cb, ck, upd rA (t + 1) (nI (8 * (9 + r) + W % 8)), upd rN (t + 1) (vY h), upd rD (t + 1) (sm_mx dx (31 + r) (W % 8)), upd rC (t + 1) (sm_mx cx (31 + r) (W % 8)), upd rO (t + 1) (if W / 8 = 0 then sm_mx cx (31 + r) (W % 8) else sm_mx d2 (9 + m) (W % 8)), upd (upd rX t (nI (P t + 1))) (t + 1) 0, vY, bY) → wpY_advance post (nI RM, nI nb, nI us, dk, pl, pd, pc, ydp, nI (t + 1), nI (h + 1), nI st, yfa, md, mo, ky, d1, d2, po, bo, fo, nk, no, nbd, nl, cn, cb, ck, rA, rN, rD, rC, rO, rX, vY, bY)) ∧
    sm_MI kx dx cx fx tx d1 d2 bo fo rt ag nk no nl nbd cost rk mc us (t + 2) h (st + 1) tot (sm_un Q (t + 1) r) (sm_un L (t + 1) (W % 8)) (sm_un A (t + 1) a) (sm_un C (t + 1) c) (sm_un B (t + 1) b) (sm_un (sm_un P t (P t + 1)) (t + 1) a) (sm_un F (t + 1) h) ∧
    sm_YA (t + 2) (sm_un Q (t + 1) r) (sm_un L (t + 1) (W % 8)) (sm_un A (t + 1) a) (sm_un (sm_un P t (P t + 1)) (t + 1) a) (upd rA (t + 1) (nI (8 * (9 + r) + W % 8))) (upd (upd rX t (nI (P t + 1))) (t + 1) 0) ∧ F t ≤ h ∧ t + 1 < 128 := by
  have hN' := hN
  obtain ⟨⟨n1, n2, n3, n4, n5, n6, n7⟩, ⟨hsc, hmc, hfc, hnb⟩, _, _⟩ := hN'
  have hus := hD.1.2
  obtain ⟨h1, h2, h3, h4⟩ := sm_MI_h M
  obtain ⟨⟨⟨o1, o2, o3, o4⟩, ⟨b1, b2, b3, b4⟩, ⟨o5, o6⟩, o7, _, _, _, _, _, hCal⟩, q2, q3, q4, q5⟩ := M.1 t (by omega)
  obtain ⟨W, m, r, hW, eW, ⟨w0, w1, w2⟩, hm, hr, er1, er2, er3, er4, hrk, hnc⟩ := hCal (P t) q2 hp k5
  have hW8 : W % 8 < 8 := Nat.mod_lt _ (by decide)
  obtain ⟨a, c, b, O, hO⟩ := sm_opq_of hN hC hD (show r < mc by omega) hW8 er2 er3
  have O' := O
  obtain ⟨_, ⟨b1', b2', b3', b4'⟩, _, _, _, _, _, ⟨dd1, dd2⟩, hfo, _⟩ := O'
  obtain ⟨MC, c1, c2, c3⟩ := sm_MI_call M hp k5 O hrk hnc
  rw [show h + 1 - 1 = h by omega] at MC c2
  refine ⟨W, m, r, a, c, b, ⟨hW, eW, hm, hr, er1, b3', er4⟩, ⟨w0, fun z => (w1 z).1, w2⟩, fun post hpost => ?_, MC, fun i hi => ?_, c2, c3⟩
  · refine sm_yadv1 (by omega) (by omega) M Y hp (sm_y71c (m' := m) h1 (by omega) (by omega) (by omega) k5 hW eW (fun z => (w0 z).1) (fun z => (w1 z).2) w2 ?_)
    refine sm_yenter (rt := rt) (r' := r) (b' := b) (by omega) hW8 c3 (by omega) hr er1 b2' b1' (fun mm x1 x2 => sm_chain hN hC hm mm x1 x2 (by omega)) hfo ?_
    rw [← dd1, ← dd2]
    by_cases z : W / 8 = 0
    · rw [if_pos z, if_pos z] at hpost
      rw [if_pos z, if_neg (by decide), if_neg (by decide)]
      exact hpost
    · rw [if_neg z, if_neg z] at hpost
      rw [if_neg z, if_pos rfl, if_pos rfl]
      exact hpost
  · by_cases z : i = t + 1
    · subst z
      rw [sm_us, sm_us, sm_us, sm_us]
      exact ⟨pk_us, 0, pk_us, Nat.zero_le _, Or.inr rfl⟩
    · rw [sm_uno z, sm_uno z, sm_uno z, sm_uno z, pk_un z, pk_un z]
      exact sm_YA_step Y i (by omega)
end sm_R
end
section
theorem sm_fa1 {a x y : Int32} (h : a = 1) : sm_fa a x y = 1 := by
  unfold sm_fa
  rw [h]
  exact if_neg (by decide)
section sm_R
variable {ML SL FL RM sc fc mc us nb : Nat} {xa xb dk dp df pl pd pc pf cd xfr xht ydp yfr yht yst yfa : Int32} {kx dx cx fx tx sp fp ff ft rt ag wk nk no nl cs cn cb fM fA fI fB fP fF vx bx md mo ky d1 d2 po bo fo nbd ck rA rN rD rC rO rX vY bY : Nat → Int32}
variable {uc tot : Nat} {cost rk : Nat → Nat}
theorem sm_yrun (hN : sm_Num ML SL FL RM sc fc mc nb md mo) (hC : sm_CL sc fc mc uc nb cost rk kx dx cx fx tx sp fp ff ft rt ag wk nk no nl ky d1 d2 po bo fo nbd) (hD : sm_DR kx dx cx fx tx sp nk no nl ky d1 d2 po nbd cs sc mc uc us nb RM dk dp df pl pd pc pf cd) : ∀ (M f h st : Nat) (yfa : Int32) (rA rN rD rC rO rX vY bY : Nat → Int32) (Q L A C B P F : Nat → Nat) (T : Nat), sm_MI kx dx cx fx tx d1 d2 bo fo rt ag nk no nl nbd cost rk mc us f h st tot Q L A C B P F → sm_YA f Q L A P rA rX → (yfa = 0 ∨ yfa = 1) → T + f ≤ 2 * st + 1 → st ≤ 241 → 2 * (tot - st) + f ≤ M →
    ∃ (f' h' st' : Nat) (fa' : Int32) (rA' rN' rD' rC' rO' rX' vY' bY' : Nat → Int32), (∀ (post : Int32 → SY → Prop) (x1 : Int32), wY_call_135 post x1 (nI RM) (nI nb) (nI us) dk pl pd pc ydp (nI f') (nI h') (nI st') fa' md mo ky d1 d2 po bo fo nk no nbd nl cn cb ck rA' rN' rD' rC' rO' rX' vY' bY' → wY_call_100 post x1 (M + 1) (nI T) (nI RM) (nI nb) (nI us) dk pl pd pc ydp (nI f) (nI h) (nI st) yfa md mo ky d1 d2 po bo fo nk no nbd nl cn cb ck rA rN rD rC rO rX vY bY) ∧ st' ≤ 241 ∧ (240 < st' ↔ 240 < tot) ∧ (yfa = 1 → fa' = 1) ∧ (fa' = 0 ∨ fa' = 1) := by
  have hN' := hN
  obtain ⟨⟨n1, n2, n3, n4, n5, n6, n7⟩, ⟨hsc, hmc, hfc, hnb⟩, _, _⟩ := hN'
  have hus := hD.1.2
  have base : ∀ (M h st : Nat) (yfa : Int32) (rA rN rD rC rO rX vY bY : Nat → Int32) (Q L A C B P F : Nat → Nat) (T : Nat), sm_MI kx dx cx fx tx d1 d2 bo fo rt ag nk no nl nbd cost rk mc us 0 h st tot Q L A C B P F → (yfa = 0 ∨ yfa = 1) → T ≤ 2 * st + 1 → st ≤ 241 →
    ∃ (f' h' st' : Nat) (fa' : Int32) (rA' rN' rD' rC' rO' rX' vY' bY' : Nat → Int32), (∀ (post : Int32 → SY → Prop) (x1 : Int32), wY_call_135 post x1 (nI RM) (nI nb) (nI us) dk pl pd pc ydp (nI f') (nI h') (nI st') fa' md mo ky d1 d2 po bo fo nk no nbd nl cn cb ck rA' rN' rD' rC' rO' rX' vY' bY' → wY_call_100 post x1 (M + 1) (nI T) (nI RM) (nI nb) (nI us) dk pl pd pc ydp (nI 0) (nI h) (nI st) yfa md mo ky d1 d2 po bo fo nk no nbd nl cn cb ck rA rN rD rC rO rX vY bY) ∧ st' ≤ 241 ∧ (240 < st' ↔ 240 < tot) ∧ (yfa = 1 → fa' = 1) ∧ (fa' = 0 ∨ fa' = 1) := by
    intro M h st yfa rA rN rD rC rO rX vY bY Q L A C B P F T MI hy hT hst
    have e : st = tot := MI.2.2.2.2.2
    exact ⟨0, h, st, yfa, rA, rN, rD, rC, rO, rX, vY, bY, fun post x1 hc => br_f (nI_ge (b := 512) (by omega) (by decide)) (br_t (by decide) hc), hst, by rw [e], fun z => z, hy⟩
  intro M
  induction M with
  | zero =>
    intro f h st yfa rA rN rD rC rO rX vY bY Q L A C B P F T MI Y hy hT hst hM
    have ef : f = 0 := by omega
    subst ef
    exact base 0 h st yfa rA rN rD rC rO rX vY bY Q L A C B P F T MI hy (by omega) hst
  | succ M ih =>
    intro f h st yfa rA rN rD rC rO rX vY bY Q L A C B P F T MI Y hy hT hst hM
    have htot : st ≤ tot := by have := MI.2.2.2.2.2; omega
    have hT512 : ¬ (512 : Int32) ≤ nI T := nI_ge (b := 512) (by omega) (by decide)
    cases f with
    | zero => exact base (M + 1) h st yfa rA rN rD rC rO rX vY bY Q L A C B P F T MI hy (by omega) hst
    | succ t =>
      obtain ⟨h1, h2, h3, h4⟩ := sm_MI_h MI
      have hf0 : ¬ nI (t + 1) ≤ 0 := nI_nle (by omega) (by omega)
      by_cases h240 : 240 < st
      · exact ⟨t + 1, h, st, yfa, rA, rN, rD, rC, rO, rX, vY, bY, fun post x1 hc => br_f hT512 (br_f hf0 (br_t (nI_lt (a := 240) h240 (by omega)) hc)), hst, by omega, fun z => z, hy⟩
      · have hs : ¬ (240 : Int32) < nI st := nI_nlt (a := 240) (by omega) (by decide)
        have hPC : P t ≤ C t := (MI.1 t (by omega)).2.2.1
        have stl : ∀ st', (∃ x, st' + x = tot) → st' ≤ tot := fun st' ⟨x, hx⟩ => by omega
        by_cases hp : P t < C t
        · by_cases k01 : nk (P t) = 0 ∨ nk (P t) = 1
          · obtain ⟨g1, g2, g3⟩ := sm_yc_p (RM := RM) (dk := dk) (pl := pl) (pd := pd) (pc := pc) (ydp := ydp) (md := md) (mo := mo) (ky := ky) (po := po) (cn := cn) (cb := cb) (ck := ck) (rA := rA) (rN := rN) (rD := rD) (rC := rC) (rO := rO) (rX := rX) (vY := vY) (bY := bY) (yfa := yfa) (by omega) (by omega) MI Y hp k01
            have := stl (st + 1) ⟨_, g2.2.2.2.2.2⟩
            obtain ⟨f', h', st', fa', rA', rN', rD', rC', rO', rX', vY', bY', i1, i2, i3, i4, i5⟩ := ih (t + 1) (h + 1) (st + 1) yfa _ rN rD rC rO _ (upd vY h (if nk (P t) = 0 then rN t else no (P t))) (upd bY h (if nk (P t) = 0 then rD t else -1)) _ _ _ _ _ _ _ (T + 1) g2 g3 hy (by omega) (by omega) (by omega)
            exact ⟨f', h', st', fa', rA', rN', rD', rC', rO', rX', vY', bY', fun post x1 hc => br_f hT512 (br_f hf0 (br_f hs (g1 _ (nm_r (nI_1 T) (i1 post x1 hc))))), i2, i3, i4, i5⟩
          · have k0 : ¬ nk (P t) = 0 := fun z => k01 (Or.inl z)
            have k1 : ¬ nk (P t) = 1 := fun z => k01 (Or.inr z)
            by_cases k5 : nk (P t) = 5
            · have ho := h4 hp
              rw [k5] at ho
              have ho := (sm_ok5 ho).1
              obtain ⟨h', rfl⟩ : ∃ h', h = h' + 1 := ⟨h - 1, by omega⟩
              obtain ⟨W, m, r, a, c, b, _, _, g1, g2, g3, _, g5⟩ := sm_yc_c (RM := RM) (dk := dk) (pl := pl) (pd := pd) (pc := pc) (ydp := ydp) (md := md) (mo := mo) (ky := ky) (po := po) (cn := cn) (cb := cb) (ck := ck) (rA := rA) (rN := rN) (rD := rD) (rC := rC) (rO := rO) (rX := rX) (vY := vY) (bY := bY) (yfa := yfa) hN hC hD MI Y hp k5
              have := stl (st + 1) ⟨_, g2.2.2.2.2.2⟩
              obtain ⟨f', h'', st', fa', rA', rN', rD', rC', rO', rX', vY', bY', i1, i2, i3, i4, i5⟩ := ih (t + 2) h' (st + 1) (sm_fa yfa (bY h') (if W / 8 = 0 then sm_mx dx (31 + r) (W % 8) else sm_mx d1 (9 + m) (W % 8))) _ (upd rN (t + 1) (vY h')) (upd rD (t + 1) (sm_mx dx (31 + r) (W % 8))) (upd rC (t + 1) (sm_mx cx (31 + r) (W % 8))) (upd rO (t + 1) (if W / 8 = 0 then sm_mx cx (31 + r) (W % 8) else sm_mx d2 (9 + m) (W % 8))) _ vY bY _ _ _ _ _ _ _ (T + 1) g2 g3 (sm_fa01 _ _ _) (by omega) (by omega) (by omega)
              exact ⟨f', h'', st', fa', rA', rN', rD', rC', rO', rX', vY', bY', fun post x1 hc => br_f hT512 (br_f hf0 (br_f hs (g1 _ (nm_r (nI_1 T) (i1 post x1 hc))))), i2, i3, fun z => i4 (sm_fa1 z), i5⟩
            · have ho := (sm_oka k0 k1 k5 (h4 hp)).1
              obtain ⟨h', rfl⟩ : ∃ h', h = h' + 2 := ⟨h - 2, by omega⟩
              obtain ⟨g1, g2, g3⟩ := sm_yc_a (RM := RM) (dk := dk) (pl := pl) (pd := pd) (pc := pc) (ydp := ydp) (md := md) (mo := mo) (ky := ky) (po := po) (cn := cn) (cb := cb) (ck := ck) (rA := rA) (rN := rN) (rD := rD) (rC := rC) (rO := rO) (rX := rX) (vY := vY) (bY := bY) (yfa := yfa) (by omega) (by omega) MI Y hp k0 k1 k5
              have := stl (st + 1) ⟨_, g2.2.2.2.2.2⟩
              obtain ⟨f', h'', st', fa', rA', rN', rD', rC', rO', rX', vY', bY', i1, i2, i3, i4, i5⟩ := ih (t + 1) (h' + 1) (st + 1) (sm_fa (sm_fa yfa (bY h') (-1)) (bY (h' + 1)) (-1)) _ rN rD rC rO _ (upd vY h' (sm_ar (nk (P t)) (vY h') (vY (h' + 1)))) (upd bY h' (-1)) _ _ _ _ _ _ _ (T + 1) g2 g3 (sm_fa01 _ _ _) (by omega) (by omega) (by omega)
              exact ⟨f', h'', st', fa', rA', rN', rD', rC', rO', rX', vY', bY', fun post x1 hc => br_f hT512 (br_f hf0 (br_f hs (g1 _ (nm_r (nI_1 T) (i1 post x1 hc))))), i2, i3, fun z => i4 (sm_fa1 (sm_fa1 z)), i5⟩
        · have hl := (sm_MI_leave MI (by omega)).2
          obtain ⟨h', rfl⟩ : ∃ h', h = h' + 1 := ⟨h - 1, by omega⟩
          obtain ⟨g1, g2, g3, g4⟩ := sm_yc_l (RM := RM) (dk := dk) (pl := pl) (pd := pd) (pc := pc) (ydp := ydp) (md := md) (mo := mo) (ky := ky) (po := po) (cn := cn) (cb := cb) (ck := ck) (rA := rA) (rN := rN) (rD := rD) (rC := rC) (rO := rO) (rX := rX) (vY := vY) (bY := bY) (yfa := yfa) (by omega) (by omega) MI Y (by omega)
          obtain ⟨f', h'', st', fa', rA', rN', rD', rC', rO', rX', vY', bY', i1, i2, i3, i4, i5⟩ := ih t (h' + 1) st (sm_fa yfa (bY h') (rC t)) rA rN rD rC rO rX vY (upd bY h' (rO t)) _ _ _ _ _ _ _ (T + 1) g2 g3 (sm_fa01 _ _ _) (by omega) (by omega) (by omega)
          exact ⟨f', h'', st', fa', rA', rN', rD', rC', rO', rX', vY', bY', fun post x1 hc => br_f hT512 (br_f hf0 (br_f hs (g1 _ (nm_r (nI_1 T) (i1 post x1 hc))))), i2, i3, fun z => i4 (sm_fa1 z), i5⟩
end sm_R
end
section
def sm_XA (f h : Nat) (Q L P F : Nat → Nat) (dx cx fM fA fI fB fP fF vx bx rN rD rC rO vY bY : Nat → Int32) : Prop :=
  (∀ i, i < f → (fM i = nI (Q i) ∧ fA i = nI ((31 + Q i) * 8 + L i) ∧ fP i = nI (P i) ∧ fF i = nI (F i)) ∧ fI i = rN i ∧ fB i = rO i ∧ rD i = sm_mx dx (31 + Q i) (L i) ∧ rC i = sm_mx cx (31 + Q i) (L i)) ∧ (∀ j, j < h → vx j = vY j ∧ bx j = bY j)
theorem sm_XA_P {t : Nat} {Q L P F : Nat → Nat} {dx cx fM fA fI fB fP fF rN rD rC rO : Nat → Int32}
    (X : ∀ i, i < t + 1 → (fM i = nI (Q i) ∧ fA i = nI ((31 + Q i) * 8 + L i) ∧ fP i = nI (P i) ∧ fF i = nI (F i)) ∧ fI i = rN i ∧ fB i = rO i ∧ rD i = sm_mx dx (31 + Q i) (L i) ∧ rC i = sm_mx cx (31 + Q i) (L i)) :
    ∀ i, i < t + 1 → (fM i = nI (Q i) ∧ fA i = nI ((31 + Q i) * 8 + L i) ∧ upd fP t (nI (P t + 1)) i = nI (sm_un P t (P t + 1) i) ∧ fF i = nI (F i)) ∧ fI i = rN i ∧ fB i = rO i ∧ rD i = sm_mx dx (31 + Q i) (L i) ∧ rC i = sm_mx cx (31 + Q i) (L i) := by
  intro i hi
  obtain ⟨⟨x1, x2, x3, x4⟩, x5⟩ := X i hi
  refine ⟨⟨x1, x2, ?_, x4⟩, x5⟩
  by_cases z : i = t
  · subst z; rw [pk_us, sm_us]
  · rw [pk_un z, sm_uno z]; exact x3
theorem sm_agree {h : Nat} {x : Int32} {a b : Nat → Int32} {y : Int32} (h1 : ∀ j, j < h → a j = b j) (e : x = y) : ∀ j, j < h + 1 → upd a h x j = upd b h y j := by
  intro j hj
  by_cases z : j = h
  · subst z; rw [pk_us, pk_us]; exact e
  · rw [pk_un z, pk_un z]; exact h1 j (by omega)
section sm_R
variable {ML SL FL RM sc fc mc us nb : Nat} {xa xb dk dp df pl pd pc pf cd xfr xht ydp yfr yht yst yfa : Int32} {kx dx cx fx tx sp fp ff ft rt ag wk nk no nl cs cn cb fM fA fI fB fP fF vx bx md mo ky d1 d2 po bo fo nbd ck rA rN rD rC rO rX vY bY : Nat → Int32}
variable {uc h st tot t : Nat} {cost rk : Nat → Nat} {Q L A C B P F : Nat → Nat}
theorem sm_xstp {post : Int32 → SX → Prop} (hmc : mc ≤ 16) (hus : us ≤ 192) (M : sm_MI kx dx cx fx tx d1 d2 bo fo rt ag nk no nl nbd cost rk mc us (t + 1) h st tot Q L A C B P F) (X : sm_XA (t + 1) h Q L P F dx cx fM fA fI fB fP fF vx bx rN rD rC rO vY bY)
    (h1 : P t < C t → ((nk (P t) = 0 → wpX_push (fun r u => match u with | (xa, xb, xml, xsl, xfl, xrm, xsc, xfc, xmc, xus, dk, dp, df, pl, pd, pc, pf, cd, xfr, xht, kx, dx, cx, fx, tx, sp, fp, ff, ft, rt, ag, wk, nk, no, nl, cs, cn, cb, fM, fA, fI, fB, fP, fF, vx, bx) => (narrow .boolean (.int r) = .int r ∧ post r (xa, xb, xml, xsl, xfl, xrm, xsc, xfc, xmc, xus, dk, dp, df, pl, pd, pc, pf, cd, xfr, xht, kx, dx, cx, fx, tx, sp, fp, ff, ft, rt, ag, wk, nk, no, nl, cs, cn, cb, fM, fA, fI, fB, fP, fF, vx, bx))) (xa, xb, nI ML, nI SL, nI FL, nI RM, nI sc, nI fc, nI mc, nI us, dk, dp, df, pl, pd, pc, pf, cd, nI (t + 1), xht, kx, dx, cx, fx, tx, sp, fp, ff, ft, rt, ag, wk, nk, no, nl, cs, cn, cb, fM, fA, fI, fB, upd fP t (nI (P t + 1)), fF, vx, bx) (fI t) (sm_mx dx (31 + Q t) (L t))) ∧ (¬ nk (P t) = 0 → ((nk (P t) = 1 → wpX_push (fun r u => match u with | (xa, xb, xml, xsl, xfl, xrm, xsc, xfc, xmc, xus, dk, dp, df, pl, pd, pc, pf, cd, xfr, xht, kx, dx, cx, fx, tx, sp, fp, ff, ft, rt, ag, wk, nk, no, nl, cs, cn, cb, fM, fA, fI, fB, fP, fF, vx, bx) => (narrow .boolean (.int r) = .int r ∧ post r (xa, xb, xml, xsl, xfl, xrm, xsc, xfc, xmc, xus, dk, dp, df, pl, pd, pc, pf, cd, xfr, xht, kx, dx, cx, fx, tx, sp, fp, ff, ft, rt, ag, wk, nk, no, nl, cs, cn, cb, fM, fA, fI, fB, fP, fF, vx, bx))) (xa, xb, nI ML, nI SL, nI FL, nI RM, nI sc, nI fc, nI mc, nI us, dk, dp, df, pl, pd, pc, pf, cd, nI (t + 1), xht, kx, dx, cx, fx, tx, sp, fp, ff, ft, rt, ag, wk, nk, no, nl, cs, cn, cb, fM, fA, fI, fB, upd fP t (nI (P t + 1)), fF, vx, bx) (no (P t)) (-1)) ∧ (¬ nk (P t) = 1 → ((nk (P t) = 5 → wpX_callNode (fun r u => match u with | (xa, xb, xml, xsl, xfl, xrm, xsc, xfc, xmc, xus, dk, dp, df, pl, pd, pc, pf, cd, xfr, xht, kx, dx, cx, fx, tx, sp, fp, ff, ft, rt, ag, wk, nk, no, nl, cs, cn, cb, fM, fA, fI, fB, fP, fF, vx, bx) => (narrow .boolean (.int r) = .int r ∧ post r (xa, xb, xml, xsl, xfl, xrm, xsc, xfc, xmc, xus, dk, dp, df, pl, pd, pc, pf, cd, xfr, xht, kx, dx, cx, fx, tx, sp, fp, ff, ft, rt, ag, wk, nk, no, nl, cs, cn, cb, fM, fA, fI, fB, fP, fF, vx, bx))) (xa, xb, nI ML, nI SL, nI FL, nI RM, nI sc, nI fc, nI mc, nI us, dk, dp, df, pl, pd, pc, pf, cd, nI (t + 1), xht, kx, dx, cx, fx, tx, sp, fp, ff, ft, rt, ag, wk, nk, no, nl, cs, cn, cb, fM, fA, fI, fB, upd fP t (nI (P t + 1)), fF, vx, bx) (nI t) (no (P t))) ∧ (¬ nk (P t) = 5 → wpX_arithmetic (fun r u => match u with | (xa, xb, xml, xsl, xfl, xrm, xsc, xfc, xmc, xus, dk, dp, df, pl, pd, pc, pf, cd, xfr, xht, kx, dx, cx, fx, tx, sp, fp, ff, ft, rt, ag, wk, nk, no, nl, cs, cn, cb, fM, fA, fI, fB, fP, fF, vx, bx) => (narrow .boolean (.int r) = .int r ∧ post r (xa, xb, xml, xsl, xfl, xrm, xsc, xfc, xmc, xus, dk, dp, df, pl, pd, pc, pf, cd, xfr, xht, kx, dx, cx, fx, tx, sp, fp, ff, ft, rt, ag, wk, nk, no, nl, cs, cn, cb, fM, fA, fI, fB, fP, fF, vx, bx))) (xa, xb, nI ML, nI SL, nI FL, nI RM, nI sc, nI fc, nI mc, nI us, dk, dp, df, pl, pd, pc, pf, cd, nI (t + 1), xht, kx, dx, cx, fx, tx, sp, fp, ff, ft, rt, ag, wk, nk, no, nl, cs, cn, cb, fM, fA, fI, fB, upd fP t (nI (P t + 1)), fF, vx, bx) (nk (P t)) (fF t))))))))
    (h2 : P t = C t → wpX_leave (fun r u => match u with | (xa, xb, xml, xsl, xfl, xrm, xsc, xfc, xmc, xus, dk, dp, df, pl, pd, pc, pf, cd, xfr, xht, kx, dx, cx, fx, tx, sp, fp, ff, ft, rt, ag, wk, nk, no, nl, cs, cn, cb, fM, fA, fI, fB, fP, fF, vx, bx) => (narrow .boolean (.int r) = .int r ∧ post r (xa, xb, xml, xsl, xfl, xrm, xsc, xfc, xmc, xus, dk, dp, df, pl, pd, pc, pf, cd, xfr, xht, kx, dx, cx, fx, tx, sp, fp, ff, ft, rt, ag, wk, nk, no, nl, cs, cn, cb, fM, fA, fI, fB, fP, fF, vx, bx))) (xa, xb, nI ML, nI SL, nI FL, nI RM, nI sc, nI fc, nI mc, nI us, dk, dp, df, pl, pd, pc, pf, cd, nI (t + 1), xht, kx, dx, cx, fx, tx, sp, fp, ff, ft, rt, ag, wk, nk, no, nl, cs, cn, cb, fM, fA, fI, fB, fP, fF, vx, bx) (nI t)) : wpX_step post (xa, xb, nI ML, nI SL, nI FL, nI RM, nI sc, nI fc, nI mc, nI us, dk, dp, df, pl, pd, pc, pf, cd, nI (t + 1), xht, kx, dx, cx, fx, tx, sp, fp, ff, ft, rt, ag, wk, nk, no, nl, cs, cn, cb, fM, fA, fI, fB, fP, fF, vx, bx) := by
  obtain ⟨q1, q2, q3, _⟩ := sm_MI_h M
  obtain ⟨⟨⟨o1, o2, o3, o4⟩, ⟨b1, b2, b3, b4⟩, ⟨o5, o6⟩, _⟩, p2, p3, _⟩ := M.1 t (by omega)
  obtain ⟨⟨x1, x2, x3, x4⟩, _⟩ := X.1 t (by omega)
  exact sm_xstep (q := Q t) (l := L t) (pp := P t) (c := C t) q1 (by omega) o2 (by omega) p3 x3 x2 b4 h1 h2
theorem sm_xc_p (hmc : mc ≤ 16) (hus : us ≤ 192) (M : sm_MI kx dx cx fx tx d1 d2 bo fo rt ag nk no nl nbd cost rk mc us (t + 1) h st tot Q L A C B P F) (X : sm_XA (t + 1) h Q L P F dx cx fM fA fI fB fP fF vx bx rN rD rC rO vY bY) (hp : P t < C t) (hk : nk (P t) = 0 ∨ nk (P t) = 1) :
    (∀ post : Int32 → SX → Prop, post 1 (xa, xb, nI ML, nI SL, nI FL, nI RM, nI sc, nI fc, nI mc, nI us, dk, dp, df, pl, pd, pc, pf, cd, nI (t + 1), nI (h + 1), kx, dx, cx, fx, tx, sp, fp, ff, ft, rt, ag, wk, nk, no, nl, cs, cn, cb, fM, fA, fI, fB, upd fP t (nI (P t + 1)), fF, upd vx h (if nk (P t) = 0 then fI t else no (P t)), upd bx h (if nk (P t) = 0 then sm_mx dx (31 + Q t) (L t) else -1)) → wpX_step post (xa, xb, nI ML, nI SL, nI FL, nI RM, nI sc, nI fc, nI mc, nI us, dk, dp, df, pl, pd, pc, pf, cd, nI (t + 1), nI h, kx, dx, cx, fx, tx, sp, fp, ff, ft, rt, ag, wk, nk, no, nl, cs, cn, cb, fM, fA, fI, fB, fP, fF, vx, bx)) ∧
    sm_XA (t + 1) (h + 1) Q L (sm_un P t (P t + 1)) F dx cx fM fA fI fB (upd fP t (nI (P t + 1))) fF (upd vx h (if nk (P t) = 0 then fI t else no (P t))) (upd bx h (if nk (P t) = 0 then sm_mx dx (31 + Q t) (L t) else -1)) rN rD rC rO (upd vY h (if nk (P t) = 0 then rN t else no (P t))) (upd bY h (if nk (P t) = 0 then rD t else -1)) := by
  obtain ⟨q1, q2, q3, _⟩ := sm_MI_h M
  obtain ⟨_, x5, x6, x7, x8⟩ := X.1 t (by omega)
  refine ⟨fun post hpost => sm_xstp hmc hus M X (fun _ => ?_) (fun z => by omega), sm_XA_P X.1, fun j hj => ⟨sm_agree (fun j hj => (X.2 j hj).1) ?_ j hj, sm_agree (fun j hj => (X.2 j hj).2) ?_ j hj⟩⟩
  · rcases hk with e | e
    · rw [if_pos e, if_pos e] at hpost
      exact br_t e (sm_xpsh (by omega) ⟨rfl, hpost⟩)
    · have k0 : ¬ nk (P t) = 0 := by rw [e]; decide
      rw [if_neg k0, if_neg k0] at hpost
      exact br_f k0 (br_t e (sm_xpsh (by omega) ⟨rfl, hpost⟩))
  · rw [x5]
  · rw [x7]
theorem sm_xc_a (hmc : mc ≤ 16) (hus : us ≤ 192) (M : sm_MI kx dx cx fx tx d1 d2 bo fo rt ag nk no nl nbd cost rk mc us (t + 1) (h + 2) st tot Q L A C B P F) (X : sm_XA (t + 1) (h + 2) Q L P F dx cx fM fA fI fB fP fF vx bx rN rD rC rO vY bY) (hp : P t < C t) (k0 : ¬ nk (P t) = 0) (k1 : ¬ nk (P t) = 1) (k5 : ¬ nk (P t) = 5) :
    (∀ post : Int32 → SX → Prop, (bx (h + 1) = -1 → bx h = -1 → post 1 (xa, xb, nI ML, nI SL, nI FL, nI RM, nI sc, nI fc, nI mc, nI us, dk, dp, df, pl, pd, pc, pf, cd, nI (t + 1), nI (h + 1), kx, dx, cx, fx, tx, sp, fp, ff, ft, rt, ag, wk, nk, no, nl, cs, cn, cb, fM, fA, fI, fB, upd fP t (nI (P t + 1)), fF, upd vx h (sm_ar (nk (P t)) (vx h) (vx (h + 1))), bx)) → (¬ (bx (h + 1) = -1 ∧ bx h = -1) → post 0 (xa, xb, nI ML, nI SL, nI FL, nI RM, nI sc, nI fc, nI mc, nI us, dk, dp, df, pl, pd, pc, pf, cd, nI (t + 1), nI (h + 2), kx, dx, cx, fx, tx, sp, fp, ff, ft, rt, ag, wk, nk, no, nl, cs, cn, cb, fM, fA, fI, fB, upd fP t (nI (P t + 1)), fF, vx, bx)) → wpX_step post (xa, xb, nI ML, nI SL, nI FL, nI RM, nI sc, nI fc, nI mc, nI us, dk, dp, df, pl, pd, pc, pf, cd, nI (t + 1), nI (h + 2), kx, dx, cx, fx, tx, sp, fp, ff, ft, rt, ag, wk, nk, no, nl, cs, cn, cb, fM, fA, fI, fB, fP, fF, vx, bx)) ∧
    (bx h = -1 → sm_XA (t + 1) (h + 1) Q L (sm_un P t (P t + 1)) F dx cx fM fA fI fB (upd fP t (nI (P t + 1))) fF (upd vx h (sm_ar (nk (P t)) (vx h) (vx (h + 1)))) bx rN rD rC rO (upd vY h (sm_ar (nk (P t)) (vY h) (vY (h + 1)))) (upd bY h (-1))) := by
  obtain ⟨q1, q2, q3, q4⟩ := sm_MI_h M
  have ho := (sm_oka k0 k1 k5 (q4 hp)).1
  obtain ⟨⟨_, _, _, x4⟩, x5, x6, x7, x8⟩ := X.1 t (by omega)
  refine ⟨fun post g1 g2 => sm_xstp hmc hus M X (fun _ => br_f k0 (br_f k1 (br_f k5 ?_))) (fun z => by omega), fun eb => ⟨sm_XA_P X.1, fun j hj => ⟨sm_agree (fun j hj => (X.2 j (by omega)).1) ?_ j hj, ?_⟩⟩⟩
  · rw [x4]
    exact sm_xarm (by omega) (by omega) (fun a b => ⟨rfl, g1 a b⟩) (fun z => ⟨rfl, g2 z⟩)
  · rw [(X.2 h (by omega)).1, (X.2 (h + 1) (by omega)).1]
  · by_cases z : j = h
    · subst z; rw [pk_us]; exact eb
    · rw [pk_un z]; exact (X.2 j (by omega)).2
theorem sm_xc_l (hmc : mc ≤ 16) (hus : us ≤ 192) (M : sm_MI kx dx cx fx tx d1 d2 bo fo rt ag nk no nl nbd cost rk mc us (t + 1) (h + 1) st tot Q L A C B P F) (X : sm_XA (t + 1) (h + 1) Q L P F dx cx fM fA fI fB fP fF vx bx rN rD rC rO vY bY) (hp : P t = C t) (hF : F t = h) :
    (∀ post : Int32 → SX → Prop, (bx h = sm_mx cx (31 + Q t) (L t) → post 1 (xa, xb, nI ML, nI SL, nI FL, nI RM, nI sc, nI fc, nI mc, nI us, dk, dp, df, pl, pd, pc, pf, cd, nI t, nI (h + 1), kx, dx, cx, fx, tx, sp, fp, ff, ft, rt, ag, wk, nk, no, nl, cs, cn, cb, fM, fA, fI, fB, fP, fF, vx, upd bx h (fB t))) → (¬ bx h = sm_mx cx (31 + Q t) (L t) → post 0 (xa, xb, nI ML, nI SL, nI FL, nI RM, nI sc, nI fc, nI mc, nI us, dk, dp, df, pl, pd, pc, pf, cd, nI (t + 1), nI (h + 1), kx, dx, cx, fx, tx, sp, fp, ff, ft, rt, ag, wk, nk, no, nl, cs, cn, cb, fM, fA, fI, fB, fP, fF, vx, bx)) → wpX_step post (xa, xb, nI ML, nI SL, nI FL, nI RM, nI sc, nI fc, nI mc, nI us, dk, dp, df, pl, pd, pc, pf, cd, nI (t + 1), nI (h + 1), kx, dx, cx, fx, tx, sp, fp, ff, ft, rt, ag, wk, nk, no, nl, cs, cn, cb, fM, fA, fI, fB, fP, fF, vx, bx)) ∧
    sm_XA t (h + 1) Q L P F dx cx fM fA fI fB fP fF vx (upd bx h (fB t)) rN rD rC rO vY (upd bY h (rO t)) := by
  obtain ⟨q1, q2, q3, q4⟩ := sm_MI_h M
  obtain ⟨⟨⟨o1, o2, o3, o4⟩, _⟩, _⟩ := M.1 t (by omega)
  obtain ⟨⟨x1, x2, x3, x4⟩, x5, x6, x7, x8⟩ := X.1 t (by omega)
  refine ⟨fun post g1 g2 => sm_xstp hmc hus M X (fun z => by omega) (fun _ => ?_), fun i hi => X.1 i (by omega), fun j hj => ⟨(X.2 j hj).1, sm_agree (fun j hj => (X.2 j (by omega)).2) x6 j hj⟩⟩
  exact sm_xlv (q := Q t) (l := L t) q1 (by omega) o2 (by omega) (by rw [x4, hF]) x2 (fun e => ⟨rfl, g1 e⟩) (fun e => ⟨rfl, g2 e⟩)
theorem sm_xc_c {W m r a : Nat} (hmc : mc ≤ 16) (hus : us ≤ 192) (M : sm_MI kx dx cx fx tx d1 d2 bo fo rt ag nk no nl nbd cost rk mc us (t + 1) (h + 1) st tot Q L A C B P F) (X : sm_XA (t + 1) (h + 1) Q L P F dx cx fM fA fI fB fP fF vx bx rN rD rC rO vY bY) (hp : P t < C t) (k5 : nk (P t) = 5)
    (w : W < 2 ^ 31 ∧ no (P t) = nI W ∧ m < mc ∧ r ≤ m ∧ rt m = nI r ∧ sm_mx fx (31 + r) (W % 8) = nI a ∧ (W / 8 ≠ 0 → sm_mx kx (9 + m) (W % 8) = 2)) (w2 : (W / 8 = 0 → m = Q t ∧ r = Q t) ∧ (W / 8 = 1 → ag (Q t) = nI m) ∧ (2 ≤ W / 8 → m = W / 8 - 2)) (hF : F t ≤ h) (ht : t + 1 < 128) :
    (∀ post : Int32 → SX → Prop, (bx h = (if W / 8 = 0 then sm_mx dx (31 + Q t) (W % 8) else sm_mx dx (9 + m) (W % 8)) → post 1 (xa, xb, nI ML, nI SL, nI FL, nI RM, nI sc, nI fc, nI mc, nI us, dk, dp, df, pl, pd, pc, pf, cd, nI (t + 1 + 1), nI h, kx, dx, cx, fx, tx, sp, fp, ff, ft, rt, ag, wk, nk, no, nl, cs, cn, cb, upd fM (t + 1) (nI r), upd fA (t + 1) (nI ((31 + r) * 8 + W % 8)), upd fI (t + 1) (vx h), upd fB (t + 1) (if W / 8 = 0 then sm_mx cx (31 + Q t) (W % 8) else sm_mx cx (9 + m) (W % 8)), upd (upd fP t (nI (P t + 1))) (t + 1) (nI a), upd fF (t + 1) (nI h), vx, bx)) →
      (¬ bx h = (if W / 8 = 0 then sm_mx dx (31 + Q t) (W % 8) else sm_mx dx (9 + m) (W % 8)) → post 0 (xa, xb, nI ML, nI SL, nI FL, nI RM, nI sc, nI fc, nI mc, nI us, dk, dp, df, pl, pd, pc, pf, cd, nI (t + 1), nI h, kx, dx, cx, fx, tx, sp, fp, ff, ft, rt, ag, wk, nk, no, nl, cs, cn, cb, fM, fA, fI, fB, upd fP t (nI (P t + 1)), fF, vx, bx)) → wpX_step post (xa, xb, nI ML, nI SL, nI FL, nI RM, nI sc, nI fc, nI mc, nI us, dk, dp, df, pl, pd, pc, pf, cd, nI (t + 1), nI (h + 1), kx, dx, cx, fx, tx, sp, fp, ff, ft, rt, ag, wk, nk, no, nl, cs, cn, cb, fM, fA, fI, fB, fP, fF, vx, bx)) ∧
    (∀ x y z : Int32, z = (if W / 8 = 0 then sm_mx cx (31 + Q t) (W % 8) else sm_mx cx (9 + m) (W % 8)) → sm_XA (t + 2) h (sm_un Q (t + 1) r) (sm_un L (t + 1) (W % 8)) (sm_un (sm_un P t (P t + 1)) (t + 1) a) (sm_un F (t + 1) h) dx cx (upd fM (t + 1) (nI r)) (upd fA (t + 1) (nI ((31 + r) * 8 + W % 8))) (upd fI (t + 1) (vx h)) (upd fB (t + 1) (if W / 8 = 0 then sm_mx cx (31 + Q t) (W % 8) else sm_mx cx (9 + m) (W % 8))) (upd (upd fP t (nI (P t + 1))) (t + 1) (nI a)) (upd fF (t + 1) (nI h)) vx bx (upd rN (t + 1) (vY h)) (upd rD (t + 1) (sm_mx dx (31 + r) (W % 8))) (upd rC (t + 1) (sm_mx cx (31 + r) (W % 8))) (upd rO (t + 1) z) vY bY) := by
  obtain ⟨q1, q2, q3, q4⟩ := sm_MI_h M
  obtain ⟨⟨⟨o1, o2, o3, o4⟩, _⟩, _⟩ := M.1 t (by omega)
  obtain ⟨⟨x1, x2, x3, x4⟩, x5, x6, x7, x8⟩ := X.1 t (by omega)
  obtain ⟨w1, w3, w4, w5, w6, w7, w8⟩ := w
  obtain ⟨v1, v2, v3⟩ := w2
  refine ⟨fun post g1 g2 => sm_xstp hmc hus M X (fun _ => br_f (by rw [k5]; decide) (br_f (by rw [k5]; decide) (br_t k5 ?_))) (fun z => by omega), fun x y z hz => ⟨fun i hi => ?_, fun j hj => X.2 j (by omega)⟩⟩
  · rw [w3]
    exact sm_xcn (q := Q t) (m' := m) (r' := r) (fl := F t) (a' := a) ht (by omega) hmc w1 w4 (by omega) (by omega) hF x1 x4 v1 v2 v3 w6 w7 (fun e => ⟨rfl, g1 e⟩) (fun e => ⟨rfl, g2 e⟩)
  · by_cases zi : i = t + 1
    · subst zi
      rw [pk_us, pk_us, pk_us, pk_us, pk_us, pk_us, pk_us, pk_us, pk_us, pk_us, sm_us, sm_us, sm_us, sm_us]
      exact ⟨⟨rfl, rfl, rfl, rfl⟩, (X.2 h (by omega)).1, hz.symm, rfl, rfl⟩
    · rw [pk_un zi, pk_un zi, pk_un zi, pk_un zi, pk_un zi, pk_un zi, pk_un zi, pk_un zi, pk_un zi, pk_un zi, sm_uno zi, sm_uno zi, sm_uno zi, sm_uno zi]
      exact sm_XA_P X.1 i (by omega)
end sm_R
end
section
section sm_R
variable {ML SL FL RM sc fc mc us nb : Nat} {xa xb dk dp df pl pd pc pf cd xfr xht ydp yfr yht yst yfa : Int32} {kx dx cx fx tx sp fp ff ft rt ag wk nk no nl cs cn cb fM fA fI fB fP fF vx bx md mo ky d1 d2 po bo fo nbd ck rA rN rD rC rO rX vY bY : Nat → Int32}
variable {uc tot : Nat} {cost rk : Nat → Nat}
theorem sm_fa0 {x y : Int32} (h : x = y) : sm_fa 0 x y = 0 := by
  unfold sm_fa
  rw [if_pos rfl, if_pos h]
theorem sm_fan {a x y : Int32} (h : ¬ x = y) : sm_fa a x y = 1 := by
  unfold sm_fa
  by_cases z : a = 0
  · rw [if_pos z, if_neg h]
  · rw [if_neg z]
theorem sm_lrun (hN : sm_Num ML SL FL RM sc fc mc nb md mo) (hC : sm_CL sc fc mc uc nb cost rk kx dx cx fx tx sp fp ff ft rt ag wk nk no nl ky d1 d2 po bo fo nbd) (hD : sm_DR kx dx cx fx tx sp nk no nl ky d1 d2 po nbd cs sc mc uc us nb RM dk dp df pl pd pc pf cd) (h240 : tot ≤ 240) : ∀ (M f h st : Nat) (fM fA fI fB fP fF vx bx rA rN rD rC rO rX vY bY : Nat → Int32) (Q L A C B P F : Nat → Nat) (T : Nat), sm_MI kx dx cx fx tx d1 d2 bo fo rt ag nk no nl nbd cost rk mc us f h st tot Q L A C B P F → sm_YA f Q L A P rA rX → sm_XA f h Q L P F dx cx fM fA fI fB fP fF vx bx rN rD rC rO vY bY → T + f ≤ 2 * st + 1 → 2 * (tot - st) + f ≤ M → ∃ (r xf xh : Int32) (fM' fA' fI' fB' fP' fF' vx' bx' : Nat → Int32) (f' h' st' : Nat) (fa' : Int32) (rA' rN' rD' rC' rO' rX' vY' bY' : Nat → Int32), (∀ post : Int32 → SX → Prop, post r (xa, xb, nI ML, nI SL, nI FL, nI RM, nI sc, nI fc, nI mc, nI us, dk, dp, df, pl, pd, pc, pf, cd, xf, xh, kx, dx, cx, fx, tx, sp, fp, ff, ft, rt, ag, wk, nk, no, nl, cs, cn, cb, fM', fA', fI', fB', fP', fF', vx', bx') → wX_evaluate_24 post (M + 1) 1 (nI T) xa xb (nI ML) (nI SL) (nI FL) (nI RM) (nI sc) (nI fc) (nI mc) (nI us) dk dp df pl pd pc pf cd (nI f) (nI h) kx dx cx fx tx sp fp ff ft rt ag wk nk no nl cs cn cb fM fA fI fB fP fF vx bx) ∧ (∀ (post : Int32 → SY → Prop) (x1 : Int32), wY_call_135 post x1 (nI RM) (nI nb) (nI us) dk pl pd pc ydp (nI f') (nI h') (nI st') fa' md mo ky d1 d2 po bo fo nk no nbd nl cn cb ck rA' rN' rD' rC' rO' rX' vY' bY' → wY_call_100 post x1 (M + 1) (nI T) (nI RM) (nI nb) (nI us) dk pl pd pc ydp (nI f) (nI h) (nI st) 0 md mo ky d1 d2 po bo fo nk no nbd nl cn cb ck rA rN rD rC rO rX vY bY) ∧ st' ≤ 240 ∧ ((r = 1 ∧ fa' = 0 ∧ vx' 0 = vY' 0 ∧ bx' 0 = bY' 0) ∨ (r = 0 ∧ fa' = 1)) := by
  have hN' := hN
  obtain ⟨⟨n1, n2, n3, n4, n5, n6, n7⟩, ⟨hsc, hmc, hfc, hnb⟩, _, _⟩ := hN'
  have hus := hD.1.2
  have base : ∀ (M h st : Nat) (fM fA fI fB fP fF vx bx rA rN rD rC rO rX vY bY : Nat → Int32) (Q L A C B P F : Nat → Nat) (T : Nat), sm_MI kx dx cx fx tx d1 d2 bo fo rt ag nk no nl nbd cost rk mc us 0 h st tot Q L A C B P F → sm_XA 0 h Q L P F dx cx fM fA fI fB fP fF vx bx rN rD rC rO vY bY → T ≤ 2 * st + 1 → ∃ (r xf xh : Int32) (fM' fA' fI' fB' fP' fF' vx' bx' : Nat → Int32) (f' h' st' : Nat) (fa' : Int32) (rA' rN' rD' rC' rO' rX' vY' bY' : Nat → Int32), (∀ post : Int32 → SX → Prop, post r (xa, xb, nI ML, nI SL, nI FL, nI RM, nI sc, nI fc, nI mc, nI us, dk, dp, df, pl, pd, pc, pf, cd, xf, xh, kx, dx, cx, fx, tx, sp, fp, ff, ft, rt, ag, wk, nk, no, nl, cs, cn, cb, fM', fA', fI', fB', fP', fF', vx', bx') → wX_evaluate_24 post (M + 1) 1 (nI T) xa xb (nI ML) (nI SL) (nI FL) (nI RM) (nI sc) (nI fc) (nI mc) (nI us) dk dp df pl pd pc pf cd (nI 0) (nI h) kx dx cx fx tx sp fp ff ft rt ag wk nk no nl cs cn cb fM fA fI fB fP fF vx bx) ∧ (∀ (post : Int32 → SY → Prop) (x1 : Int32), wY_call_135 post x1 (nI RM) (nI nb) (nI us) dk pl pd pc ydp (nI f') (nI h') (nI st') fa' md mo ky d1 d2 po bo fo nk no nbd nl cn cb ck rA' rN' rD' rC' rO' rX' vY' bY' → wY_call_100 post x1 (M + 1) (nI T) (nI RM) (nI nb) (nI us) dk pl pd pc ydp (nI 0) (nI h) (nI st) 0 md mo ky d1 d2 po bo fo nk no nbd nl cn cb ck rA rN rD rC rO rX vY bY) ∧ st' ≤ 240 ∧ ((r = 1 ∧ fa' = 0 ∧ vx' 0 = vY' 0 ∧ bx' 0 = bY' 0) ∨ (r = 0 ∧ fa' = 1)) := by
    intro M h st fM fA fI fB fP fF vx bx rA rN rD rC rO rX vY bY Q L A C B P F T MI X hT
    have e : st = tot := MI.2.2.2.2.2
    have eh : h = 1 := MI.2.2.2.1 rfl
    subst eh
    refine ⟨1, nI 0, nI 1, fM, fA, fI, fB, fP, fF, vx, bx, 0, 1, st, 0, rA, rN, rD, rC, rO, rX, vY, bY, fun post hp => ?_, fun post x1 hc => br_f (nI_ge (b := 512) (by omega) (by decide)) (br_t (by decide) hc), by omega, Or.inl ⟨rfl, rfl, (X.2 0 (by omega)).1, (X.2 0 (by omega)).2⟩⟩
    exact br_f (nI_ge (b := 482) (by omega) (by decide)) (br_f (by decide) (br_t (by decide) (br_f (by decide) (br_t rfl (br_t rfl hp)))))
  intro M
  induction M with
  | zero =>
    intro f h st fM fA fI fB fP fF vx bx rA rN rD rC rO rX vY bY Q L A C B P F T MI Y X hT hM
    have ef : f = 0 := by omega
    subst ef
    exact base 0 h st fM fA fI fB fP fF vx bx rA rN rD rC rO rX vY bY Q L A C B P F T MI X (by omega)
  | succ M ih =>
    intro f h st fM fA fI fB fP fF vx bx rA rN rD rC rO rX vY bY Q L A C B P F T MI Y X hT hM
    have htot : st ≤ tot := by have := MI.2.2.2.2.2; omega
    have hT512 : ¬ (512 : Int32) ≤ nI T := nI_ge (b := 512) (by omega) (by decide)
    have hT482 : ¬ (482 : Int32) ≤ nI T := nI_ge (b := 482) (by omega) (by decide)
    cases f with
    | zero => exact base (M + 1) h st fM fA fI fB fP fF vx bx rA rN rD rC rO rX vY bY Q L A C B P F T MI X (by omega)
    | succ t =>
      obtain ⟨h1, h2, h3, h4⟩ := sm_MI_h MI
      have hf0 : ¬ nI (t + 1) ≤ 0 := nI_nle (by omega) (by omega)
      have hs : ¬ (240 : Int32) < nI st := nI_nlt (a := 240) (by omega) (by decide)
      have one : ¬ (1 : Int32) = 0 := by decide
      have hPC : P t ≤ C t := (MI.1 t (by omega)).2.2.1
      have stl : ∀ st', (∃ x, st' + x = tot) → st' ≤ tot := fun st' ⟨x, hx⟩ => by omega
      have fault : ∀ (xf xh : Int32) (fM' fA' fI' fB' fP' fF' vx' bx' : Nat → Int32) (f2 h2 st2 : Nat) (rA2 rN2 rD2 rC2 rO2 rX2 vY2 bY2 : Nat → Int32) (Q L A C B P F : Nat → Nat), sm_MI kx dx cx fx tx d1 d2 bo fo rt ag nk no nl nbd cost rk mc us f2 h2 st2 tot Q L A C B P F → sm_YA f2 Q L A P rA2 rX2 → T + 1 + f2 ≤ 2 * st2 + 1 → st2 ≤ 241 → 2 * (tot - st2) + f2 ≤ M →
          (∀ post : Int32 → SX → Prop, post 0 (xa, xb, nI ML, nI SL, nI FL, nI RM, nI sc, nI fc, nI mc, nI us, dk, dp, df, pl, pd, pc, pf, cd, xf, xh, kx, dx, cx, fx, tx, sp, fp, ff, ft, rt, ag, wk, nk, no, nl, cs, cn, cb, fM', fA', fI', fB', fP', fF', vx', bx') → wpX_step post (xa, xb, nI ML, nI SL, nI FL, nI RM, nI sc, nI fc, nI mc, nI us, dk, dp, df, pl, pd, pc, pf, cd, nI (t + 1), nI h, kx, dx, cx, fx, tx, sp, fp, ff, ft, rt, ag, wk, nk, no, nl, cs, cn, cb, fM, fA, fI, fB, fP, fF, vx, bx)) → (∀ post : SY → Prop, post (nI RM, nI nb, nI us, dk, pl, pd, pc, ydp, nI f2, nI h2, nI st2, 1, md, mo, ky, d1, d2, po, bo, fo, nk, no, nbd, nl, cn, cb, ck, rA2, rN2, rD2, rC2, rO2, rX2, vY2, bY2) → wpY_advance post (nI RM, nI nb, nI us, dk, pl, pd, pc, ydp, nI (t + 1), nI h, nI st, 0, md, mo, ky, d1, d2, po, bo, fo, nk, no, nbd, nl, cn, cb, ck, rA, rN, rD, rC, rO, rX, vY, bY)) → ∃ (r xf xh : Int32) (fM' fA' fI' fB' fP' fF' vx' bx' : Nat → Int32) (f' h' st' : Nat) (fa' : Int32) (rA' rN' rD' rC' rO' rX' vY' bY' : Nat → Int32), (∀ post : Int32 → SX → Prop, post r (xa, xb, nI ML, nI SL, nI FL, nI RM, nI sc, nI fc, nI mc, nI us, dk, dp, df, pl, pd, pc, pf, cd, xf, xh, kx, dx, cx, fx, tx, sp, fp, ff, ft, rt, ag, wk, nk, no, nl, cs, cn, cb, fM', fA', fI', fB', fP', fF', vx', bx') → wX_evaluate_24 post (M + 1 + 1) 1 (nI T) xa xb (nI ML) (nI SL) (nI FL) (nI RM) (nI sc) (nI fc) (nI mc) (nI us) dk dp df pl pd pc pf cd (nI (t + 1)) (nI h) kx dx cx fx tx sp fp ff ft rt ag wk nk no nl cs cn cb fM fA fI fB fP fF vx bx) ∧ (∀ (post : Int32 → SY → Prop) (x1 : Int32), wY_call_135 post x1 (nI RM) (nI nb) (nI us) dk pl pd pc ydp (nI f') (nI h') (nI st') fa' md mo ky d1 d2 po bo fo nk no nbd nl cn cb ck rA' rN' rD' rC' rO' rX' vY' bY' → wY_call_100 post x1 (M + 1 + 1) (nI T) (nI RM) (nI nb) (nI us) dk pl pd pc ydp (nI (t + 1)) (nI h) (nI st) 0 md mo ky d1 d2 po bo fo nk no nbd nl cn cb ck rA rN rD rC rO rX vY bY) ∧ st' ≤ 240 ∧ ((r = 1 ∧ fa' = 0 ∧ vx' 0 = vY' 0 ∧ bx' 0 = bY' 0) ∨ (r = 0 ∧ fa' = 1)) := by
        intro xf xh fM' fA' fI' fB' fP' fF' vx' bx' f2 h2 st2 rA2 rN2 rD2 rC2 rO2 rX2 vY2 bY2 Q L A C B P F MI2 Y2 hT2 hst2 hM2 gX gY
        obtain ⟨f3, h3, st3, fa3, rA3, rN3, rD3, rC3, rO3, rX3, vY3, bY3, i1, i2, i3, i4, i5⟩ := sm_yrun (RM := RM) (dk := dk) (pl := pl) (pd := pd) (pc := pc) (ydp := ydp) (md := md) (mo := mo) (ky := ky) (po := po) (cn := cn) (cb := cb) (ck := ck) hN hC hD M f2 h2 st2 1 rA2 rN2 rD2 rC2 rO2 rX2 vY2 bY2 Q L A C B P F (T + 1) MI2 Y2 (Or.inr rfl) hT2 hst2 hM2
        refine ⟨0, xf, xh, fM', fA', fI', fB', fP', fF', vx', bx', f3, h3, st3, fa3, rA3, rN3, rD3, rC3, rO3, rX3, vY3, bY3, fun post hp => ?_, fun post x1 hc => br_f hT512 (br_f hf0 (br_f hs (gY _ (nm_r (nI_1 T) (i1 post x1 hc))))), by omega, Or.inr ⟨rfl, i4 rfl⟩⟩
        exact br_f hT482 (br_f one (br_f hf0 (gX _ (nm_e (br_c (fun _ => br_t rfl hp) (fun _ => br_t rfl (br_t rfl hp)))))))
      by_cases hp : P t < C t
      · by_cases k01 : nk (P t) = 0 ∨ nk (P t) = 1
        · obtain ⟨g1, g2, g3⟩ := sm_yc_p (RM := RM) (dk := dk) (pl := pl) (pd := pd) (pc := pc) (ydp := ydp) (md := md) (mo := mo) (ky := ky) (po := po) (cn := cn) (cb := cb) (ck := ck) (rA := rA) (rN := rN) (rD := rD) (rC := rC) (rO := rO) (rX := rX) (vY := vY) (bY := bY) (yfa := 0) (by omega) (by omega) MI Y hp k01
          obtain ⟨x1, x2⟩ := sm_xc_p (xa := xa) (xb := xb) (ML := ML) (SL := SL) (FL := FL) (RM := RM) (sc := sc) (fc := fc) (dk := dk) (dp := dp) (df := df) (pl := pl) (pd := pd) (pc := pc) (pf := pf) (cd := cd) (kx := kx) (sp := sp) (fp := fp) (ff := ff) (ft := ft) (wk := wk) (nl := nl) (cs := cs) (cn := cn) (cb := cb) (fM := fM) (fA := fA) (fI := fI) (fB := fB) (fP := fP) (fF := fF) (vx := vx) (bx := bx) (by omega) (by omega) MI X hp k01
          have := stl (st + 1) ⟨_, g2.2.2.2.2.2⟩
          obtain ⟨r, xf, xh, fM', fA', fI', fB', fP', fF', vx', bx', f', h', st', fa', rA', rN', rD', rC', rO', rX', vY', bY', i1, i2, i3, i4⟩ := ih (t + 1) (h + 1) (st + 1) _ _ _ _ _ _ _ _ _ _ _ _ _ _ _ _ _ _ _ _ _ _ _ (T + 1) g2 g3 x2 (by omega) (by omega)
          exact ⟨r, xf, xh, fM', fA', fI', fB', fP', fF', vx', bx', f', h', st', fa', rA', rN', rD', rC', rO', rX', vY', bY', fun post hp => br_f hT482 (br_f one (br_f hf0 (x1 _ (nm_r (nI_1 T) (i1 post hp))))), fun post x1 hc => br_f hT512 (br_f hf0 (br_f hs (g1 _ (nm_r (nI_1 T) (i2 post x1 hc))))), i3, i4⟩
        · have k0 : ¬ nk (P t) = 0 := fun z => k01 (Or.inl z)
          have k1 : ¬ nk (P t) = 1 := fun z => k01 (Or.inr z)
          by_cases k5 : nk (P t) = 5
          · have ho := h4 hp
            rw [k5] at ho
            have ho := (sm_ok5 ho).1
            obtain ⟨h', rfl⟩ : ∃ h', h = h' + 1 := ⟨h - 1, by omega⟩
            obtain ⟨W, m, r, a, c, b, w, w2, g1, g2, g3, g4, g5⟩ := sm_yc_c (RM := RM) (dk := dk) (pl := pl) (pd := pd) (pc := pc) (ydp := ydp) (md := md) (mo := mo) (ky := ky) (po := po) (cn := cn) (cb := cb) (ck := ck) (rA := rA) (rN := rN) (rD := rD) (rC := rC) (rO := rO) (rX := rX) (vY := vY) (bY := bY) (yfa := 0) hN hC hD MI Y hp k5
            obtain ⟨x1, x2⟩ := sm_xc_c (xa := xa) (xb := xb) (ML := ML) (SL := SL) (FL := FL) (RM := RM) (sc := sc) (fc := fc) (dk := dk) (dp := dp) (df := df) (pl := pl) (pd := pd) (pc := pc) (pf := pf) (cd := cd) (kx := kx) (sp := sp) (fp := fp) (ff := ff) (ft := ft) (wk := wk) (nl := nl) (cs := cs) (cn := cn) (cb := cb) (fM := fM) (fA := fA) (fI := fI) (fB := fB) (fP := fP) (fF := fF) (vx := vx) (bx := bx) (by omega) (by omega) MI X hp k5 w w2 g4 g5
            have := stl (st + 1) ⟨_, g2.2.2.2.2.2⟩
            have eb := (X.2 h' (by omega)).2
            have hm := w.2.2.1
            have LM := (hC.2.2.2.1 m hm).1
            have eD : (if W / 8 = 0 then sm_mx dx (31 + r) (W % 8) else sm_mx d1 (9 + m) (W % 8)) = (if W / 8 = 0 then sm_mx dx (31 + Q t) (W % 8) else sm_mx dx (9 + m) (W % 8)) := by
              by_cases z : W / 8 = 0
              · rw [if_pos z, if_pos z, (w2.1 z).2]
              · rw [if_neg z, if_neg z]; exact ((sm_LR_12 LM _).2 (w.2.2.2.2.2.2 z)).1
            have eC : (if W / 8 = 0 then sm_mx cx (31 + r) (W % 8) else sm_mx d2 (9 + m) (W % 8)) = (if W / 8 = 0 then sm_mx cx (31 + Q t) (W % 8) else sm_mx cx (9 + m) (W % 8)) := by
              by_cases z : W / 8 = 0
              · rw [if_pos z, if_pos z, (w2.1 z).2]
              · rw [if_neg z, if_neg z]; exact ((sm_LR_12 LM _).2 (w.2.2.2.2.2.2 z)).2
            by_cases hb : bx h' = (if W / 8 = 0 then sm_mx dx (31 + Q t) (W % 8) else sm_mx dx (9 + m) (W % 8))
            · rw [sm_fa0 (by rw [← eb, hb, eD])] at g1
              obtain ⟨r, xf, xh, fM', fA', fI', fB', fP', fF', vx', bx', f', h'', st', fa', rA', rN', rD', rC', rO', rX', vY', bY', i1, i2, i3, i4⟩ := ih (t + 2) h' (st + 1) _ _ _ _ _ _ _ _ _ _ _ _ _ _ _ _ _ _ _ _ _ _ _ (T + 1) g2 g3 (x2 0 0 _ eC) (by omega) (by omega)
              exact ⟨r, xf, xh, fM', fA', fI', fB', fP', fF', vx', bx', f', h'', st', fa', rA', rN', rD', rC', rO', rX', vY', bY', fun post hp => br_f hT482 (br_f one (br_f hf0 (x1 _ (fun _ => nm_r (nI_1 T) (i1 post hp)) (fun z => absurd hb z)))), fun post x1 hc => br_f hT512 (br_f hf0 (br_f hs (g1 _ (nm_r (nI_1 T) (i2 post x1 hc))))), i3, i4⟩
            · rw [sm_fan (by rw [← eb, eD]; exact hb)] at g1
              exact fault _ _ _ _ _ _ _ _ _ _ _ _ _ _ _ _ _ _ _ _ _ _ _ _ _ _ _ _ g2 g3 (by omega) (by omega) (by omega) (fun post hp => x1 post (fun z => absurd z hb) (fun _ => hp)) g1
          · have ho := (sm_oka k0 k1 k5 (h4 hp)).1
            obtain ⟨h', rfl⟩ : ∃ h', h = h' + 2 := ⟨h - 2, by omega⟩
            obtain ⟨g1, g2, g3⟩ := sm_yc_a (RM := RM) (dk := dk) (pl := pl) (pd := pd) (pc := pc) (ydp := ydp) (md := md) (mo := mo) (ky := ky) (po := po) (cn := cn) (cb := cb) (ck := ck) (rA := rA) (rN := rN) (rD := rD) (rC := rC) (rO := rO) (rX := rX) (vY := vY) (bY := bY) (yfa := 0) (by omega) (by omega) MI Y hp k0 k1 k5
            obtain ⟨x1, x2⟩ := sm_xc_a (xa := xa) (xb := xb) (ML := ML) (SL := SL) (FL := FL) (RM := RM) (sc := sc) (fc := fc) (dk := dk) (dp := dp) (df := df) (pl := pl) (pd := pd) (pc := pc) (pf := pf) (cd := cd) (kx := kx) (sp := sp) (fp := fp) (ff := ff) (ft := ft) (wk := wk) (nl := nl) (cs := cs) (cn := cn) (cb := cb) (fM := fM) (fA := fA) (fI := fI) (fB := fB) (fP := fP) (fF := fF) (vx := vx) (bx := bx) (by omega) (by omega) MI X hp k0 k1 k5
            have := stl (st + 1) ⟨_, g2.2.2.2.2.2⟩
            have e0 := (X.2 h' (by omega)).2
            have e1 := (X.2 (h' + 1) (by omega)).2
            by_cases hb : bx (h' + 1) = -1 ∧ bx h' = -1
            · rw [sm_fa0 (by rw [← e0]; exact hb.2), sm_fa0 (by rw [← e1]; exact hb.1)] at g1
              obtain ⟨r, xf, xh, fM', fA', fI', fB', fP', fF', vx', bx', f', h'', st', fa', rA', rN', rD', rC', rO', rX', vY', bY', i1, i2, i3, i4⟩ := ih (t + 1) (h' + 1) (st + 1) _ _ _ _ _ _ _ _ _ _ _ _ _ _ _ _ _ _ _ _ _ _ _ (T + 1) g2 g3 (x2 hb.2) (by omega) (by omega)
              exact ⟨r, xf, xh, fM', fA', fI', fB', fP', fF', vx', bx', f', h'', st', fa', rA', rN', rD', rC', rO', rX', vY', bY', fun post hp => br_f hT482 (br_f one (br_f hf0 (x1 _ (fun _ _ => nm_r (nI_1 T) (i1 post hp)) (fun z => absurd hb z)))), fun post x1 hc => br_f hT512 (br_f hf0 (br_f hs (g1 _ (nm_r (nI_1 T) (i2 post x1 hc))))), i3, i4⟩
            · have efa : sm_fa (sm_fa 0 (bY h') (-1)) (bY (h' + 1)) (-1) = 1 := by
                by_cases z : bx (h' + 1) = -1
                · exact sm_fa1 (sm_fan (by rw [← e0]; exact fun y => hb ⟨z, y⟩))
                · exact sm_fan (by rw [← e1]; exact z)
              rw [efa] at g1
              exact fault _ _ _ _ _ _ _ _ _ _ _ _ _ _ _ _ _ _ _ _ _ _ _ _ _ _ _ _ g2 g3 (by omega) (by omega) (by omega) (fun post hp => x1 post (fun a b => absurd ⟨a, b⟩ hb) (fun _ => hp)) g1
      · have hl := (sm_MI_leave MI (by omega)).2
        obtain ⟨h', rfl⟩ : ∃ h', h = h' + 1 := ⟨h - 1, by omega⟩
        obtain ⟨g1, g2, g3, g4⟩ := sm_yc_l (RM := RM) (dk := dk) (pl := pl) (pd := pd) (pc := pc) (ydp := ydp) (md := md) (mo := mo) (ky := ky) (po := po) (cn := cn) (cb := cb) (ck := ck) (rA := rA) (rN := rN) (rD := rD) (rC := rC) (rO := rO) (rX := rX) (vY := vY) (bY := bY) (yfa := 0) (by omega) (by omega) MI Y (by omega)
        obtain ⟨x1, x2⟩ := sm_xc_l (xa := xa) (xb := xb) (ML := ML) (SL := SL) (FL := FL) (RM := RM) (sc := sc) (fc := fc) (dk := dk) (dp := dp) (df := df) (pl := pl) (pd := pd) (pc := pc) (pf := pf) (cd := cd) (kx := kx) (sp := sp) (fp := fp) (ff := ff) (ft := ft) (wk := wk) (nl := nl) (cs := cs) (cn := cn) (cb := cb) (fM := fM) (fA := fA) (fI := fI) (fB := fB) (fP := fP) (fF := fF) (vx := vx) (bx := bx) (by omega) (by omega) MI X (by omega) g4
        have eb := (X.2 h' (by omega)).2
        have eC := (X.1 t (by omega)).2.2.2.2
        by_cases hb : bx h' = sm_mx cx (31 + Q t) (L t)
        · rw [sm_fa0 (by rw [← eb, hb, eC])] at g1
          obtain ⟨r, xf, xh, fM', fA', fI', fB', fP', fF', vx', bx', f', h'', st', fa', rA', rN', rD', rC', rO', rX', vY', bY', i1, i2, i3, i4⟩ := ih t (h' + 1) st _ _ _ _ _ _ _ _ _ _ _ _ _ _ _ _ _ _ _ _ _ _ _ (T + 1) g2 g3 x2 (by omega) (by omega)
          exact ⟨r, xf, xh, fM', fA', fI', fB', fP', fF', vx', bx', f', h'', st', fa', rA', rN', rD', rC', rO', rX', vY', bY', fun post hp => br_f hT482 (br_f one (br_f hf0 (x1 _ (fun _ => nm_r (nI_1 T) (i1 post hp)) (fun z => absurd hb z)))), fun post x1 hc => br_f hT512 (br_f hf0 (br_f hs (g1 _ (nm_r (nI_1 T) (i2 post x1 hc))))), i3, i4⟩
        · rw [sm_fan (by rw [← eb, eC]; exact hb)] at g1
          exact fault _ _ _ _ _ _ _ _ _ _ _ _ _ _ _ _ _ _ _ _ _ _ _ _ _ _ _ _ g2 g3 (by omega) (by omega) (by omega) (fun post hp => x1 post (fun z => absurd z hb) (fun _ => hp)) g1
end sm_R
end
section
section sm_Y
variable {yrm ynb yus ydk ypl ypd ypc ydp yfr yht yst yfa : Int32} {md mo ky d1 d2 po bo fo ynk yno nbd ynl ycn ycb ck rA rN rD rC rO rX vY bY : Nat → Int32}
theorem sm_yspx {sc mc : Nat} (hs : sc ≤ 8) (hm : mc ≤ 16) (e0 : md 0 = nI sc) (e1 : md 1 = nI mc) (hd : ydk = -1 ∨ ∃ D, D < 3 ∧ ydk = nI D) (x : Int32) : ∃ c : Int32, ∀ post : Int32 → Prop, post c → wpY_spot post (yrm, ynb, yus, ydk, ypl, ypd, ypc, ydp, yfr, yht, yst, yfa, md, mo, ky, d1, d2, po, bo, fo, ynk, yno, nbd, ynl, ycn, ycb, ck, rA, rN, rD, rC, rO, rX, vY, bY) x 2 := by
  by_cases hx : x < 0
  · exact ⟨-1, fun post h => ⟨sm_80, nm_e (br_f (fun z => Int32.not_le.mpr hx z) (br_t sm_n1lt h))⟩⟩
  · obtain ⟨W, hW, rfl⟩ := nI_of hx
    have none : ∀ post : Int32 → Prop, post (-1) → wY_spot_53 post (nI W) 2 (-1) yrm ynb yus ydk ypl ypd ypc ydp yfr yht yst yfa md mo ky d1 d2 po bo fo ynk yno nbd ynl ycn ycb ck rA rN rD rC rO rX vY bY := fun post h => br_t sm_n1lt h
    have row : ∀ r, r < 53 → ∃ c : Int32, ∀ post : Int32 → Prop, post c → wY_spot_53 post (nI W) 2 (nI r) yrm ynb yus ydk ypl ypd ypc ydp yfr yht yst yfa md mo ky d1 d2 po bo fo ynk yno nbd ynl ycn ycb ck rA rN rD rC rO rX vY bY := by
      intro r hr
      by_cases z : sm_mx ky r (W % 8) = 2
      · exact ⟨nI (8 * r + W % 8), fun post h => sm_ysp hr hW (fun _ => h) (fun y => absurd z y)⟩
      · exact ⟨-1, fun post h => sm_ysp hr hW (fun y => absurd y z) (fun _ => h)⟩
    by_cases h0 : W / 8 = 0
    · have e : nI (W / 8) = 0 := by rw [h0]; rfl
      rcases hd with rfl | ⟨D, hD, rfl⟩
      · exact ⟨-1, fun post h => ⟨sm_80, nm_r (sm_d8 hW) (br_t (nI_pos' hW) (br_t e (sm_yf3n (none post h))))⟩⟩
      · obtain ⟨c, hc⟩ := row 0 (by omega)
        exact ⟨c, fun post h => ⟨sm_80, nm_r (sm_d8 hW) (br_t (nI_pos' hW) (br_t e (sm_yf3 hD (hc post h))))⟩⟩
    · have f0 : ¬ nI (W / 8) = 0 := nI_ne0 (by omega) (by omega)
      by_cases h1 : W / 8 = 1
      · have e : nI (W / 8) = 1 := by rw [h1]; rfl
        rcases sm_exq (po 0) sc with ⟨p, hp, ep⟩ | hn
        · obtain ⟨c, hc⟩ := row (1 + p) (by omega)
          refine ⟨c, fun post h => ⟨sm_80, nm_r (sm_d8 hW) (br_t (nI_pos' hW) (br_f f0 (br_t e (sm_yf0 (by omega) e0 (fun hn => absurd ep (hn p hp)) (fun j hj ej => ?_)))))⟩⟩
          rw [← sm_inj (ep.symm.trans ej) (by omega) (by omega)]
          exact hc post h
        · exact ⟨-1, fun post h => ⟨sm_80, nm_r (sm_d8 hW) (br_t (nI_pos' hW) (br_f f0 (br_t e (sm_yf0 (by omega) e0 (fun _ => none post h) (fun j hj ej => absurd ej (hn j hj))))))⟩⟩
      · have f1 : ¬ nI (W / 8) = 1 := fun e => h1 (sm_inj (b := 1) e (by omega) (by omega))
        have es : nI (W / 8) - 2 = nI (W / 8 - 2) := sm_s2 (by omega)
        rcases sm_exq (nI (W / 8) - 2) mc with ⟨p, hp, ep⟩ | hn
        · obtain ⟨c, hc⟩ := row (9 + p) (by omega)
          refine ⟨c, fun post h => ⟨sm_80, nm_r (sm_d8 hW) (br_t (nI_pos' hW) (br_f f0 (br_f f1 (sm_yf1 (by omega) e1 (fun hn => absurd ep (hn p hp)) (fun j hj ej => ?_)))))⟩⟩
          rw [← sm_inj (ep.symm.trans ej) (by omega) (by omega)]
          exact hc post h
        · exact ⟨-1, fun post h => ⟨sm_80, nm_r (sm_d8 hW) (br_t (nI_pos' hW) (br_f f0 (br_f f1 (sm_yf1 (by omega) e1 (fun _ => none post h) (fun j hj ej => absurd ej (hn j hj))))))⟩⟩
theorem sm_ysp2 {post : Int32 → Prop} {mc W : Nat} (hm : mc ≤ 16) (e1 : md 1 = nI mc) (hW : W < 2 ^ 31) (h16 : 16 ≤ W) (h0 : ¬ W / 8 - 2 < mc → post (-1)) (h1 : W / 8 - 2 < mc → sm_mx ky (9 + (W / 8 - 2)) (W % 8) = 2 → post (nI (8 * (9 + (W / 8 - 2)) + W % 8))) (h2 : W / 8 - 2 < mc → ¬ sm_mx ky (9 + (W / 8 - 2)) (W % 8) = 2 → post (-1)) : wpY_spot post (yrm, ynb, yus, ydk, ypl, ypd, ypc, ydp, yfr, yht, yst, yfa, md, mo, ky, d1, d2, po, bo, fo, ynk, yno, nbd, ynl, ycn, ycb, ck, rA, rN, rD, rC, rO, rX, vY, bY) (nI W) 2 := by
  have f0 : ¬ nI (W / 8) = 0 := nI_ne0 (by omega) (by omega)
  have f1 : ¬ nI (W / 8) = 1 := fun e => absurd (sm_inj (b := 1) e (by omega) (by omega)) (by omega)
  refine ⟨sm_80, nm_r (sm_d8 hW) (br_t (nI_pos' hW) (br_f f0 (br_f f1 ?_)))⟩
  rw [sm_s2 (by omega)]
  refine sm_yf1 (by omega) e1 (fun hn => ?_) (fun j hj ej => ?_)
  · exact br_t sm_n1lt (h0 fun z => hn _ z rfl)
  · have := sm_inj ej (by omega) (by omega)
    subst this
    exact sm_ysp (by omega) hW (h1 hj) (h2 hj)
end sm_Y
theorem i_vc_call {k : Nat} {u : SX} {v : SY} (I : i_Rel k u v) (hk : k + 5 ≤ 2564) (v1 : Int32) (v2 : Int32) : wpX_call (fun r u' => wpY_call (fun r' v' => r' = r ∧ i_Rel (k + 5) u' v') v v1 v2) u v1 v2 := by
  refine sm_el (P := fun u v => i_Rel (k + 5) u v → wpX_call (fun r u' => wpY_call (fun r' v' => r' = r ∧ i_Rel (k + 5) u' v') v v1 v2) u v1 v2) ?_ I (i_up I)
  intro uc cost rk ML SL FL RM sc fc mc us nb xa xb dk dp df pl pd pc pf cd xfr xht ydp yfr yht yst yfa kx dx cx fx tx sp fp ff ft rt ag wk nk no nl cs cn cb fM fA fI fB fP fF vx bx md mo ky d1 d2 po bo fo nbd ck rA rN rD rC rO rX vY bY hN hC hD J
  have hN' := hN
  obtain ⟨⟨n1, n2, n3, n4, n5, n6, n7⟩, ⟨hsc, hmc, hfc, hnb⟩, ⟨m0, m1, m2⟩, _⟩ := hN'
  have hus := hD.1.2
  have Md := hC.2.2.2.1
  have hdk : dk = -1 ∨ ∃ D, D < 3 ∧ dk = nI D := by
    rcases hD.2.2 with ⟨e, _⟩ | ⟨D, ⟨e1, e2, _⟩, _⟩
    · exact Or.inl e
    · exact Or.inr ⟨D, by omega, e2⟩
  obtain ⟨cc, hcc⟩ := sm_yspx (yrm := nI RM) (ynb := nI nb) (yus := nI us) (ydk := dk) (ypl := pl) (ypd := pd) (ypc := pc) (ydp := ydp) (yfr := yfr) (yht := yht) (yst := yst) (yfa := yfa) (md := md) (mo := mo) (ky := ky) (d1 := d1) (d2 := d2) (po := po) (bo := bo) (fo := fo) (ynk := nk) (yno := no) (nbd := nbd) (ynl := nl) (ycn := cn) (ycb := cb) (ck := ck) (rA := rA) (rN := rN) (rD := rD) (rC := rC) (rO := rO) (rX := rX) (vY := vY) (bY := bY) (by omega) (by omega) m0 m1 hdk v2
  unfold wpX_call
  rcases sm_c8 v1 with ⟨a, b⟩ | ⟨a, b, _, d⟩ | ⟨j, hj, rfl, ja, jb, _⟩
  · refine sm_xin0 b (br_t rfl ?_)
    unfold wpY_call
    exact hcc _ (br_t a ⟨rfl, J⟩)
  · refine sm_xin0 d (br_t rfl ?_)
    unfold wpY_call
    exact hcc _ (br_f a (br_t b ⟨rfl, J⟩))
  · refine sm_xin1 hj (br_f (by decide) ?_)
    by_cases h16 : 16 ≤ v2
    · have hv0 : ¬ v2 < 0 := fun z => absurd (Int32.lt_of_le_of_lt h16 z) (by decide)
      obtain ⟨W, hW, rfl⟩ := nI_of hv0
      have hW16 : 16 ≤ W := (nI_leI (a := 16) (by omega) hW).mp h16
      have h16' : ¬ nI W < 16 := Int32.not_lt.mpr h16
      have hl : W % 8 < 8 := Nat.mod_lt _ (by decide)
      have ij : vp_in (nI j) 8 := vp_in_nI hj (by omega)
      have cj : (nI j).toNatClampNeg = j := nI_clamp (by omega)
      refine br_t h16 ⟨sm_80, nm_r (e' := nI (W / 8 - 2)) (by rw [sm_d8 hW, sm_s2 (by omega)]) ⟨sm_80, nm_r (sm_q8 hW) ?_⟩⟩
      have Y0 : ∀ q : Int32 → SY → Prop, (¬ W / 8 - 2 < mc → q (-1) (nI RM, nI nb, nI us, dk, pl, pd, pc, ydp, yfr, yht, yst, yfa, md, mo, ky, d1, d2, po, bo, fo, nk, no, nbd, nl, cn, cb, ck, rA, rN, rD, rC, rO, rX, vY, bY)) → (W / 8 - 2 < mc → ((¬ sm_mx kx (9 + (W / 8 - 2)) (W % 8) = 2 → q (-1) (nI RM, nI nb, nI us, dk, pl, pd, pc, ydp, yfr, yht, yst, yfa, md, mo, ky, d1, d2, po, bo, fo, nk, no, nbd, nl, cn, cb, ck, rA, rN, rD, rC, rO, rX, vY, bY)) ∧ (sm_mx kx (9 + (W / 8 - 2)) (W % 8) = 2 → ((¬ cb j = sm_mx dx (9 + (W / 8 - 2)) (W % 8) → q (-6) (nI RM, nI nb, nI us, dk, pl, pd, pc, ydp, yfr, yht, yst, yfa, md, mo, ky, d1, d2, po, bo, fo, nk, no, nbd, nl, cn, cb, ck, rA, rN, rD, rC, rO, rX, vY, bY)) ∧ (cb j = sm_mx dx (9 + (W / 8 - 2)) (W % 8) → wpY_enter (fun u => match u with | (yrm, ynb, yus, ydk, ypl, ypd, ypc, ydp, yfr, yht, yst, yfa, md, mo, ky, d1, d2, po, bo, fo, ynk, yno, nbd, ynl, ycn, ycb, ck, rA, rN, rD, rC, rO, rX, vY, bY) => ∃ n : Nat, wY_call_100 q (nI j) n 0 yrm ynb yus ydk ypl ypd ypc ydp yfr yht yst yfa md mo ky d1 d2 po bo fo ynk yno nbd ynl ycn ycb ck rA rN rD rC rO rX vY bY) (nI RM, nI nb, nI us, dk, pl, pd, pc, ydp, 0, 1, 0, 0, md, mo, ky, d1, d2, po, bo, fo, nk, no, nbd, nl, cn, cb, ck, rA, rN, rD, rC, rO, rX, upd vY 0 (cn j), upd bY 0 (cb j)) (nI (8 * (9 + (W / 8 - 2)) + W % 8)) 0))))) → wpY_call q (nI RM, nI nb, nI us, dk, pl, pd, pc, ydp, yfr, yht, yst, yfa, md, mo, ky, d1, d2, po, bo, fo, nk, no, nbd, nl, cn, cb, ck, rA, rN, rD, rC, rO, rX, vY, bY) (nI j) (nI W) := by
        intro q g1 g2
        unfold wpY_call
        refine sm_ysp2 (by omega) m1 hW hW16 (fun z => br_f ja (br_f jb (br_f h16' (br_f sm_n1le (g1 z))))) (fun z z2 => br_f ja (br_f jb (br_f h16' (br_t (nI_pos' (by omega)) ⟨ij, vp_in_nI (by omega) (by omega), ?_⟩)))) (fun z z2 => br_f ja (br_f jb (br_f h16' (br_f sm_n1le ((g2 z).1 ?_)))))
        · have LM := (Md _ z).1
          rw [(LM _).1] at z2
          obtain ⟨q1, q2⟩ := (sm_LR_12 LM _).2 z2
          rw [cj, nI_clamp (by omega), sm_mx2 (a := d1) hl, q1]
          exact br_c (fun e => ⟨ij, nm_e ⟨ij, nm_e (((g2 z).2 z2).2 e)⟩⟩) (fun e => ((g2 z).2 z2).1 e)
        · rw [← ((Md _ z).1 _).1]; exact z2
      generalize hmm : W / 8 - 2 = m at Y0 ⊢
      generalize hll : W % 8 = l at Y0 ⊢ hl
      refine sm_xex (by omega) (fun hn => br_t rfl (Y0 _ (fun _ => ⟨rfl, J⟩) (fun z => absurd rfl (hn m z)))) (fun m' hm' em' => br_f (by decide) ?_)
      have := sm_inj em' (by omega) (by omega)
      subst this
      refine sm_xms (nm_r (sm_8r _ _) ⟨vp_in_nI (by omega) (by omega), ?_⟩)
      rw [nI_clamp (show (9 + m) * 8 + l < 2 ^ 31 by omega), sm_mx1 (a := kx) hl, sm_mx1 (a := dx) hl, cj]
      have i5 : vp_in (nI ((9 + m) * 8 + l)) 424 := vp_in_nI (by omega) (by omega)
      refine br_c (fun ek => ⟨ij, i5, br_c (fun eb => ?_) (fun eb => Y0 _ (fun z => absurd hm' z) (fun _ => ⟨fun z => absurd ek z, fun _ => ⟨fun _ => ⟨rfl, J⟩, fun z => absurd z eb⟩⟩))⟩) (fun ek => Y0 _ (fun z => absurd hm' z) (fun _ => ⟨fun _ => ⟨rfl, J⟩, fun z => absurd z ek⟩))
      obtain ⟨r, hr, er1, er2, er3, ew⟩ := sm_callee (by omega) Md hm' hl ek
      obtain ⟨aa, c, b, O, hrk⟩ := sm_opq_of hN hC hD (show r < mc by omega) hl er2 er3
      have O' := O
      obtain ⟨_, ⟨b1, b2, b3, b4⟩, ⟨o5, o6⟩, _, _, _, oQ, ⟨dd1, dd2⟩, hfo, _⟩ := O'
      have LM := (Md m hm').1
      obtain ⟨q1, q2⟩ := (sm_LR_12 LM l).2 ek
      refine ⟨vp_in_nI (by omega) (by omega), ?_⟩
      rw [nI_clamp (show m < 2 ^ 31 by omega), er1, sm_8r, nI_clamp (show r * 8 + l < 2 ^ 31 by omega), show r * 8 + l = 8 * r + l by omega, ew]
      refine ⟨vp_in_nI (by omega) (by omega), ?_⟩
      have MI0 : sm_MI kx dx cx fx tx d1 d2 bo fo rt ag nk no nl nbd cost rk mc us 1 0 0 (cost (8 * r + l)) (fun _ => r) (fun _ => l) (fun _ => aa) (fun _ => c) (fun _ => b) (fun _ => aa) (fun _ => 0) := by
        refine ⟨fun i hi => ⟨O, Nat.le_refl _, Nat.le_of_lt o5, (show rk (8 * r + l) + i ≤ 127 by omega), Nat.zero_le _⟩, fun i hi => by omega, rfl, fun z => by omega, fun t ht => ?_, ?_⟩
        · rw [Nat.sub_self]; rfl
        · show 0 + (0 + sm_S (fun k => 1 + sm_nc nk no rt ag cost r k) aa (c - aa)) = cost (8 * r + l)
          rw [Nat.zero_add, Nat.zero_add]
          exact oQ.symm
      have YA0 : sm_YA 1 (fun _ => r) (fun _ => l) (fun _ => aa) (fun _ => aa) (upd rA 0 (nI (8 * (9 + r) + l))) (upd rX 0 0) := by
        intro i hi
        have : i = 0 := by omega
        subst this
        exact ⟨pk_us, 0, pk_us, Nat.zero_le _, Or.inr rfl⟩
      have Ye : ∀ q : SY → Prop, q (nI RM, nI nb, nI us, dk, pl, pd, pc, ydp, nI 1, nI 0, nI 0, 0, md, mo, ky, d1, d2, po, bo, fo, nk, no, nbd, nl, cn, cb, ck, upd rA 0 (nI (8 * (9 + r) + l)), upd rN 0 (cn j), upd rD 0 (sm_mx dx (31 + r) l), upd rC 0 (sm_mx cx (31 + r) l), upd rO 0 (sm_mx cx (9 + m) l), upd rX 0 0, upd vY 0 (cn j), upd bY 0 (cb j)) → wpY_enter q (nI RM, nI nb, nI us, dk, pl, pd, pc, ydp, 0, 1, 0, 0, md, mo, ky, d1, d2, po, bo, fo, nk, no, nbd, nl, cn, cb, ck, rA, rN, rD, rC, rO, rX, upd vY 0 (cn j), upd bY 0 (cb j)) (nI (8 * (9 + m) + l)) 0 := by
        intro q hq
        refine sm_yenter (rt := rt) (m' := m) (r' := r) (l' := l) (b' := b) (h' := 0) (f := 0) (by omega) hl (by omega) (by omega) hr er1 b2 b1 (fun mm x1 x2 => sm_chain hN hC hm' mm x1 x2 (by omega)) hfo ?_
        rw [← dd1, ← dd2, if_pos rfl, if_pos rfl, q1, q2, pk_us, pk_us, sm_fa0 eb]
        exact hq
      have Yfin : ∀ (q : Int32 → SY → Prop), (∃ n : Nat, wY_call_100 q (nI j) n 0 (nI RM) (nI nb) (nI us) dk pl pd pc ydp (nI 1) (nI 0) (nI 0) 0 md mo ky d1 d2 po bo fo nk no nbd nl cn cb ck (upd rA 0 (nI (8 * (9 + r) + l))) (upd rN 0 (cn j)) (upd rD 0 (sm_mx dx (31 + r) l)) (upd rC 0 (sm_mx cx (31 + r) l)) (upd rO 0 (sm_mx cx (9 + m) l)) (upd rX 0 0) (upd vY 0 (cn j)) (upd bY 0 (cb j))) → wpY_call q (nI RM, nI nb, nI us, dk, pl, pd, pc, ydp, yfr, yht, yst, yfa, md, mo, ky, d1, d2, po, bo, fo, nk, no, nbd, nl, cn, cb, ck, rA, rN, rD, rC, rO, rX, vY, bY) (nI j) (nI W) :=
        fun q h => Y0 q (fun z => absurd hm' z) (fun _ => ⟨fun z => absurd ek z, fun _ => ⟨fun z => absurd eb z, fun _ => Ye _ h⟩⟩)
      by_cases hc : cost (8 * r + l) ≤ 240
      · have ecap : sm_cap (cost (8 * r + l)) = cost (8 * r + l) := if_pos hc
        rw [ecap]
        refine br_t (nI_le (b := 240) hc (by decide)) ⟨ij, ij, ?_⟩
        have XA0 : sm_XA 1 0 (fun _ => r) (fun _ => l) (fun _ => aa) (fun _ => 0) dx cx (upd fM 0 (nI r)) (upd fA 0 (nI ((31 + r) * 8 + l))) (upd fI 0 (cn j)) (upd fB 0 (sm_mx cx (9 + m) l)) (upd fP 0 (nI aa)) (upd fF 0 (nI 0)) vx bx (upd rN 0 (cn j)) (upd rD 0 (sm_mx dx (31 + r) l)) (upd rC 0 (sm_mx cx (31 + r) l)) (upd rO 0 (sm_mx cx (9 + m) l)) (upd vY 0 (cn j)) (upd bY 0 (cb j)) := by
          refine ⟨fun i hi => ?_, fun i hi => by omega⟩
          have : i = 0 := by omega
          subst this
          exact ⟨⟨pk_us, pk_us, pk_us, pk_us⟩, by rw [pk_us, pk_us], by rw [pk_us, pk_us], pk_us, pk_us⟩
        obtain ⟨rr, xf, xh, fM', fA', fI', fB', fP', fF', vx', bx', f', h', st', fa', rA', rN', rD', rC', rO', rX', vY', bY', i1, i2, i3, i4⟩ := sm_lrun (xa := xa) (xb := xb) (ML := ML) (SL := SL) (FL := FL) (RM := RM) (sc := sc) (fc := fc) (dk := dk) (dp := dp) (df := df) (pl := pl) (pd := pd) (pc := pc) (pf := pf) (cd := cd) (kx := kx) (sp := sp) (fp := fp) (ff := ff) (ft := ft) (wk := wk) (nl := nl) (cs := cs) (cn := cn) (cb := cb) (ydp := ydp) (md := md) (mo := mo) (ky := ky) (po := po) (ck := ck) hN hC hD hc (2 * cost (8 * r + l) + 1) 1 0 0 _ _ _ _ _ _ _ _ _ _ _ _ _ _ _ _ _ _ _ _ _ _ _ 0 MI0 YA0 XA0 (by omega) (by omega)
        unfold wpX_evaluate
        refine sm_xrun (f := 0) (h' := 0) (m' := m) (r' := r) (l' := l) (a' := aa) (by omega) (by omega) (by omega) hl er1 b3 (fun _ => ⟨2 * cost (8 * r + l) + 1 + 1, ?_⟩) (fun z => absurd eb z)
        refine i1 _ ?_
        have s240 : nI st' ≤ 240 := nI_le (b := 240) i3 (by decide)
        rcases i4 with ⟨e1, e2, e3, e4⟩ | ⟨e1, e2⟩
        · subst e1 e2
          refine br_f (by decide) ⟨ij, nm_e ⟨ij, nm_e ?_⟩⟩
          refine Yfin _ ⟨_, i2 _ _ (br_t s240 (br_t rfl ⟨ij, nm_r (e' := upd cn j (vx' 0)) (by rw [cj, e3]) ⟨ij, nm_r (e' := upd cb j (bx' 0)) (by rw [cj, e4]) ⟨rfl, sm_in hN hC hD⟩⟩⟩))⟩
        · subst e1 e2
          refine br_t rfl (Yfin _ ⟨_, i2 _ _ (br_t s240 (br_f (by decide) ⟨rfl, sm_in hN hC hD⟩))⟩)
      · have ecap : sm_cap (cost (8 * r + l)) = 241 := if_neg hc
        rw [ecap]
        obtain ⟨f', h', st', fa', rA', rN', rD', rC', rO', rX', vY', bY', i1, i2, i3, i4, i5⟩ := sm_yrun (RM := RM) (dk := dk) (pl := pl) (pd := pd) (pc := pc) (ydp := ydp) (md := md) (mo := mo) (ky := ky) (po := po) (cn := cn) (cb := cb) (ck := ck) hN hC hD (2 * cost (8 * r + l) + 1) 1 0 0 0 _ (upd rN 0 (cn j)) (upd rD 0 (sm_mx dx (31 + r) l)) (upd rC 0 (sm_mx cx (31 + r) l)) (upd rO 0 (sm_mx cx (9 + m) l)) _ (upd vY 0 (cn j)) (upd bY 0 (cb j)) _ _ _ _ _ _ _ 0 MI0 YA0 (Or.inl rfl) (by omega) (by omega) (by omega)
        have s240 : ¬ nI st' ≤ 240 := nI_ge (a := 240) (i3.mpr (by omega)) (by omega)
        exact br_f (by decide) (Yfin _ ⟨_, i1 _ _ (br_f s240 ⟨rfl, sm_in hN hC hD⟩)⟩)
    · refine br_f h16 ?_
      unfold wpY_call
      exact hcc _ (br_f ja (br_f jb (br_t (Int32.not_le.mp h16) ⟨rfl, J⟩)))
end
