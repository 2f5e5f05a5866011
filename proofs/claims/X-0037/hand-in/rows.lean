section
theorem pk_us {f : Nat → Int32} {k : Nat} {x : Int32} : upd f k x k = x := if_pos rfl
theorem pk_un {f : Nat → Int32} {k j : Nat} {x : Int32} (h : j ≠ k) : upd f k x j = f j := if_neg h
theorem pk_uLs {f : Nat → Int64} {k : Nat} {x : Int64} : vp_updL f k x k = x := if_pos rfl
theorem pk_uLn {f : Nat → Int64} {k j : Nat} {x : Int64} (h : j ≠ k) : vp_updL f k x j = f j := if_neg h
theorem pk_sub {a b : Nat} (h : b ≤ a) : nI a - nI b = nI (a - b) := by
  obtain ⟨c, rfl⟩ : ∃ c, a = c + b := ⟨a - b, by omega⟩
  rw [← nI_add, Int32.add_sub_cancel, Nat.add_sub_cancel]
theorem pk_m1 (n : Nat) : nI (n + 1) + (-1) = nI n := by
  rw [← nI_1, Int32.add_assoc, show (1 : Int32) + (-1) = 0 from rfl, Int32.add_zero]
theorem pk_mul (a b : Nat) : nI a * nI b = nI (a * b) := (Int32.ofNat_mul a b).symm
theorem pk_div {a d : Nat} (ha : a < 2 ^ 31) (h0 : 0 < d) (hd : d < 2 ^ 31) : nI a / nI d = nI (a / d) := by
  apply Int32.toInt_inj.mp
  rw [lg_idiv_nonneg (by rw [nI_toInt ha]; omega) (by rw [nI_toInt hd]; omega), nI_toInt ha, nI_toInt hd, nI_toInt (Nat.lt_of_le_of_lt (Nat.div_le_self a d) ha)]
  first | rfl | exact (Int.natCast_ediv _ _).symm
theorem pk_rem {a d : Nat} (ha : a < 2 ^ 31) (h0 : 0 < d) (hd : d < 2 ^ 31) : nI a - nI a / nI d * nI d = nI (a % d) := by
  rw [pk_div ha h0 hd, pk_mul, pk_sub (Nat.div_mul_le_self a d)]
  exact congrArg nI (by have := Nat.div_add_mod' a d; omega)
theorem pk_sub_toInt {a b : Nat} (ha : a < 2 ^ 30) (hb : b < 2 ^ 30) : (nI a - nI b).toInt = (a : Int) - b := by
  rw [Int32.toInt_sub, nI_toInt (by omega), nI_toInt (by omega)]
  exact Int.bmod_eq_of_le (by omega) (by omega)
theorem pk_sneg {a b : Nat} (hb : b < 2 ^ 30) (h : a < b) : nI a - nI b < 0 := by
  rw [Int32.lt_iff_toInt_lt, pk_sub_toInt (by omega) hb, show (0 : Int32).toInt = 0 from by decide]
  omega
theorem pk_ix (x : Int32) {n : Nat} (hn : n < 2 ^ 31) : x < 0 ∨ nI n ≤ x ∨ ∃ j : Nat, j < n ∧ x = nI j := by
  by_cases h : x < 0
  · exact Or.inl h
  · obtain ⟨j, hj, rfl⟩ := nI_of h
    by_cases h2 : j < n
    · exact Or.inr (Or.inr ⟨j, h2, rfl⟩)
    · exact Or.inr (Or.inl (nI_le (by omega) hj))
theorem pk_le {x y : Int32} {A B : Prop} (a b : Nat) (f : a ≤ b → A) (g : b < a → B) (hx : x = nI a := by rfl) (hy : y = nI b := by rfl) (ha : a < 2 ^ 31 := by omega) (hb : b < 2 ^ 31 := by omega) : (x ≤ y → A) ∧ (¬ x ≤ y → B) := by
  subst hx hy
  rw [nI_leI ha hb]
  exact ⟨f, fun z => g (by omega)⟩
theorem pk_lt {x y : Int32} {A B : Prop} (a b : Nat) (f : a < b → A) (g : b ≤ a → B) (hx : x = nI a := by rfl) (hy : y = nI b := by rfl) (ha : a < 2 ^ 31 := by omega) (hb : b < 2 ^ 31 := by omega) : (x < y → A) ∧ (¬ x < y → B) := by
  subst hx hy
  rw [nI_ltI ha hb]
  exact ⟨f, fun z => g (by omega)⟩
theorem pk_eq {x y : Int32} {A B : Prop} (a b : Nat) (f : a = b → A) (g : a ≠ b → B) (hx : x = nI a := by rfl) (hy : y = nI b := by rfl) (ha : a < 2 ^ 31 := by omega) (hb : b < 2 ^ 31 := by omega) : (x = y → A) ∧ (¬ x = y → B) := by
  subst hx hy
  rw [nI_eq ha hb]
  exact ⟨f, g⟩
theorem pk_in {x : Int32} (n N : Nat) (h : n < N) (hx : x = nI n := by rfl) (hN : N < 2 ^ 31 := by omega) : vp_in x N := by
  subst hx
  exact vp_in_nI h hN
theorem pk_cl {x : Int32} (n : Nat) (hx : x = nI n := by rfl) (h : n < 2 ^ 31 := by omega) : x.toNatClampNeg = n := by
  subst hx
  exact nI_clamp h
/-! own rows: numbers -/
theorem za_n1 {n : Nat} (h : n < 2 ^ 31) : ¬ nI n = -1 := by
  intro e
  have := nI_pos (n := n) h
  rw [e] at this
  exact this (by decide)
theorem za_n1' {n : Nat} (h : n < 2 ^ 31) : ¬ (-1 : Int32) = nI n := fun e => za_n1 h e.symm
theorem za_im {a b : Nat} (h : nI a = nI b) (ha : a < 2 ^ 31) (hb : b < 2 ^ 31) : a = b := (nI_eq ha hb).mp h
theorem za_b0 : vp_nar .boolean 0 = 0 := by decide
theorem za_b1 : vp_nar .boolean 1 = 1 := by decide
theorem za_b01 {x : Int32} (h : x = 0 ∨ x = 1) : vp_nar .boolean x = x := by
  rcases h with rfl | rfl
  · exact za_b0
  · exact za_b1
theorem za_8 (l n : Nat) : 8 * nI l + nI n = nI (8 * l + n) := by
  rw [show (8 : Int32) * nI l = nI (8 * l) from pk_mul 8 l, nI_add]
theorem za_8y (l n : Nat) : nI l * 8 + nI n = nI (8 * l + n) := by
  rw [show nI l * (8 : Int32) = nI (l * 8) from pk_mul l 8, nI_add, Nat.mul_comm]
theorem za_2 (l n : Nat) : 2 * nI l + nI n = nI (2 * l + n) := by
  rw [show (2 : Int32) * nI l = nI (2 * l) from pk_mul 2 l, nI_add]
theorem za_2y (l n : Nat) : nI l * 2 + nI n = nI (2 * l + n) := by
  rw [show nI l * (2 : Int32) = nI (l * 2) from pk_mul l 2, nI_add, Nat.mul_comm]
theorem za_4 (l n : Nat) : 4 * nI l + nI n = nI (4 * l + n) := by
  rw [show (4 : Int32) * nI l = nI (4 * l) from pk_mul 4 l, nI_add]
theorem za_4y (l n : Nat) : nI l * 4 + nI n = nI (4 * l + n) := by
  rw [show nI l * (4 : Int32) = nI (l * 4) from pk_mul l 4, nI_add, Nat.mul_comm]
theorem za_16 (m x y : Nat) : nI m * 16 + nI x * 4 + nI y = nI (16 * m + (4 * x + y)) := by
  rw [show nI m * (16 : Int32) = nI (m * 16) from pk_mul m 16, show nI x * (4 : Int32) = nI (x * 4) from pk_mul x 4, nI_add, nI_add]
  exact congrArg nI (by omega)
theorem za_16p (m p : Nat) : nI m * 16 + nI p = nI (16 * m + p) := by
  rw [show nI m * (16 : Int32) = nI (m * 16) from pk_mul m 16, nI_add, Nat.mul_comm]
theorem za_d8 {a : Nat} (h : a < 2 ^ 31) : nI a / 8 = nI (a / 8) := pk_div h (by decide) (by decide)
theorem za_r8 {a : Nat} (h : a < 2 ^ 31) : nI a - nI a / 8 * 8 = nI (a % 8) := pk_rem h (by decide) (by decide)
theorem za_d4 {a : Nat} (h : a < 2 ^ 31) : nI a / 4 = nI (a / 4) := pk_div h (by decide) (by decide)
theorem za_r4 {a : Nat} (h : a < 2 ^ 31) : nI a - nI a / 4 * 4 = nI (a % 4) := pk_rem h (by decide) (by decide)
theorem za_p {n : Nat} (h : 0 < n) : nI n - 1 = nI (n - 1) := by
  obtain ⟨m, rfl⟩ : ∃ m, n = m + 1 := ⟨n - 1, by omega⟩
  exact nI_pred m
theorem za_c8 {l n : Nat} (h : 8 * l + n < 2 ^ 31) : (8 * nI l + nI n).toNatClampNeg = 8 * l + n := by rw [za_8, nI_clamp h]
theorem za_c8y {l n : Nat} (h : 8 * l + n < 2 ^ 31) : (nI l * 8 + nI n).toNatClampNeg = 8 * l + n := by rw [za_8y, nI_clamp h]
theorem za_c2 {l n : Nat} (h : 2 * l + n < 2 ^ 31) : (2 * nI l + nI n).toNatClampNeg = 2 * l + n := by rw [za_2, nI_clamp h]
theorem za_c2y {l n : Nat} (h : 2 * l + n < 2 ^ 31) : (nI l * 2 + nI n).toNatClampNeg = 2 * l + n := by rw [za_2y, nI_clamp h]
theorem za_c4 {l n : Nat} (h : 4 * l + n < 2 ^ 31) : (4 * nI l + nI n).toNatClampNeg = 4 * l + n := by rw [za_4, nI_clamp h]
theorem za_c4y {l n : Nat} (h : 4 * l + n < 2 ^ 31) : (nI l * 4 + nI n).toNatClampNeg = 4 * l + n := by rw [za_4y, nI_clamp h]
theorem za_i8 {l n : Nat} (hl : l < 4) (hn : n < 8) : vp_in (8 * nI l + nI n) 32 := pk_in (8 * l + n) 32 (by omega) (za_8 l n)
theorem za_i8y {l n : Nat} (hl : l < 4) (hn : n < 8) : vp_in (nI l * 8 + nI n) 32 := pk_in (8 * l + n) 32 (by omega) (za_8y l n)
theorem za_i2 {l n : Nat} (hl : l < 32) (hn : n < 2) : vp_in (2 * nI l + nI n) 64 := pk_in (2 * l + n) 64 (by omega) (za_2 l n)
theorem za_i2y {l n : Nat} (hl : l < 32) (hn : n < 2) : vp_in (nI l * 2 + nI n) 64 := pk_in (2 * l + n) 64 (by omega) (za_2y l n)
theorem za_i4 {l n : Nat} (hl : l < 8) (hn : n < 4) : vp_in (4 * nI l + nI n) 32 := pk_in (4 * l + n) 32 (by omega) (za_4 l n)
theorem za_i4y {l n : Nat} (hl : l < 8) (hn : n < 4) : vp_in (nI l * 4 + nI n) 32 := pk_in (4 * l + n) 32 (by omega) (za_4y l n)
theorem za_n80 : ¬ (8 : Int32) = 0 := by decide
theorem za_n40 : ¬ (4 : Int32) = 0 := by decide
theorem za_n10 : ¬ (1 : Int32) = 0 := by decide
/-- a literal bound reached, or not yet -/
theorem za_ge {c : Int32} {i : Nat} (b : Nat) (h : b ≤ i) (hi : i < 2 ^ 31) (hc : c = nI b := by rfl) : c ≤ nI i := by subst hc; exact nI_le h hi
theorem za_nge {c : Int32} {i : Nat} (b : Nat) (h : i < b) (hb : b < 2 ^ 31 := by decide) (hc : c = nI b := by rfl) : ¬ c ≤ nI i := by subst hc; exact nI_ge h hb
/-! stores -/
theorem zu_id {f : Nat → Int32} {k : Nat} {x : Int32} (h : f k = x) : upd f k x = f := by
  funext j
  by_cases e : j = k
  · subst e; rw [pk_us, h]
  · rw [pk_un e]
theorem zu_c {f : Nat → Int32} {k j : Nat} {x : Int32} : (j = k ∧ upd f k x j = x) ∨ (j ≠ k ∧ upd f k x j = f j) := by
  by_cases e : j = k
  · exact Or.inl ⟨e, by rw [e]; exact pk_us⟩
  · exact Or.inr ⟨e, pk_un e⟩
/-- the first k cells of a, the rest of b -/
def zu_mx (k : Nat) (a b : Nat → Int32) : Nat → Int32 := fun j => if j < k then a j else b j
theorem zu_mx0 (a b : Nat → Int32) : zu_mx 0 a b = b := by
  funext j; exact if_neg (by omega)
theorem zu_mxs (k : Nat) (a b : Nat → Int32) : upd (zu_mx k a b) k (a k) = zu_mx (k + 1) a b := by
  funext j
  rcases zu_c (f := zu_mx k a b) (k := k) (j := j) (x := a k) with ⟨e, h⟩ | ⟨e, h⟩
  · rw [h, e]; exact (if_pos (by omega)).symm
  · rw [h]
    by_cases hj : j < k
    · exact (if_pos hj).trans (if_pos (by omega)).symm
    · exact (if_neg hj).trans (if_neg (by omega)).symm
theorem zu_mx_lo {k j : Nat} {a b : Nat → Int32} (h : j < k) : zu_mx k a b j = a j := if_pos h
theorem zu_mx_hi {k j : Nat} {a b : Nat → Int32} (h : k ≤ j) : zu_mx k a b j = b j := if_neg (by omega)
/-- a restored array is the old one -/
theorem zu_back {k : Nat} {a b c : Nat → Int32} (h1 : ∀ j, j < k → a j = c j) (h2 : ∀ j, k ≤ j → b j = c j) : zu_mx k a b = c := by
  funext j
  by_cases hj : j < k
  · rw [zu_mx_lo hj, h1 j hj]
  · rw [zu_mx_hi (by omega), h2 j (by omega)]
/-- n different numbers below m: n is at most m -/
theorem zu_pg : ∀ (m n : Nat) (f : Nat → Nat), (∀ i, i < n → f i < m) → (∀ i, i < n → ∀ j, j < i → f j ≠ f i) → n ≤ m := by
  intro m
  induction m with
  | zero =>
    intro n f h _
    rcases Nat.eq_zero_or_pos n with h0 | h0
    · omega
    · exact absurd (h 0 h0) (by omega)
  | succ m ih =>
    intro n f h hd
    by_cases hm : ∃ i, i < n ∧ f i = m
    · obtain ⟨i, hi, e⟩ := hm
      have := ih (n - 1) (fun j => if j < i then f j else f (j + 1)) (by
        intro j hj
        show (if j < i then f j else f (j + 1)) < m
        by_cases hji : j < i
        · rw [if_pos hji]
          have h1 := h j (by omega)
          have h2 := hd i hi j hji
          omega
        · rw [if_neg hji]
          have h1 := h (j + 1) (by omega)
          have h2 := hd (j + 1) (by omega) i (by omega)
          omega) (by
        intro j hj j' hj'
        show (if j' < i then f j' else f (j' + 1)) ≠ (if j < i then f j else f (j + 1))
        by_cases h1 : j < i
        · rw [if_pos h1, if_pos (by omega)]
          exact hd j (by omega) j' hj'
        · rw [if_neg h1]
          by_cases h2 : j' < i
          · rw [if_pos h2]
            exact hd (j + 1) (by omega) j' (by omega)
          · rw [if_neg h2]
            exact hd (j + 1) (by omega) (j' + 1) (by omega))
      omega
    · have := ih n f (by
        intro i hi
        have h1 := h i hi
        have h2 : f i ≠ m := fun e => hm ⟨i, hi, e⟩
        omega) hd
      omega
end
section
/-! the range checks of both sides -/
def zb_L (L : Nat) (v : Int32) : Prop := ∃ j, j < L ∧ v = nI j
/-- a name, a register .. or NONE -/
def zb_N (N : Nat) (v : Int32) : Prop := v = -1 ∨ ∃ j, j < N ∧ v = nI j
/-- a class's id -/
def zb_C (L N : Nat) (v : Int32) : Prop := ∃ a, a < L ∧ ∃ b, b < N ∧ v = nI (8 * a + b)
/-- a class's id or NONE -/
def zb_V (L N : Nat) (v : Int32) : Prop := v = -1 ∨ zb_C L N v
theorem zb_n {L : Nat} {v : Int32} (h : ¬ zb_L L v) (hL : L ≤ 8) : v < 0 ∨ nI L ≤ v := by
  rcases pk_ix v (n := L) (by omega) with a | a | ⟨j, hj, e⟩
  · exact Or.inl a
  · exact Or.inr a
  · exact absurd ⟨j, hj, e⟩ h
theorem zb_neg {v : Int32} {L : Nat} (h : v < 0) (hL : L ≤ 8) : ¬ zb_L L v := by
  rintro ⟨j, hj, rfl⟩
  exact nI_pos (by omega) h
theorem zb_V32 {L N : Nat} {v : Int32} (h : zb_C L N v) (hL : L ≤ 4) (hN : N ≤ 8) : ∃ c, c < 32 ∧ v = nI c ∧ c / 8 < L ∧ c % 8 < N := by
  obtain ⟨a, ha, b, hb, e⟩ := h
  exact ⟨8 * a + b, by omega, e, by omega, by omega⟩
theorem zb_Cn {L N : Nat} {v : Int32} (h : zb_C L N v) (hL : L ≤ 4) (hN : N ≤ 8) : ¬ v = -1 := by
  obtain ⟨a, ha, b, hb, rfl⟩ := h
  exact za_n1 (by omega)
theorem zb_Cp {L N : Nat} {v : Int32} (h : zb_C L N v) (hL : L ≤ 4) (hN : N ≤ 8) : 0 ≤ v := by
  obtain ⟨a, ha, b, hb, rfl⟩ := h
  exact nI_pos' (by omega)
theorem zb_Ci {L N c : Nat} (hc : c < 32) (h1 : c / 8 < L) (h2 : c % 8 < N) : zb_C L N (nI c) := ⟨c / 8, h1, c % 8, h2, congrArg nI (by omega)⟩
section ZBX
variable {lc nc mf wl fr : Int32} {tg ld gp hf sn fn ma mr so he sl sg ss wL wN wC wF fL fE fR rN rV : Nat → Int32}
variable {post : Int32 → Prop} {L N j : Nat} {v : Int32}
theorem zb_xL0 (h : ¬ zb_L L v) (hL : L ≤ 8) (hp : post 0) : wpX_isLoader post (nI L, nc, mf, wl, fr, tg, ld, gp, hf, sn, fn, ma, mr, so, he, sl, sg, ss, wL, wN, wC, wF, fL, fE, fR, rN, rV) v := by
  by_cases b : v < 0
  · exact br_t b hp
  · rcases zb_n h hL with a | a
    · exact absurd a b
    · exact br_f b (br_t a hp)
theorem zb_xL1 (hj : j < L) (hL : L ≤ 8) (hp : post 1) : wpX_isLoader post (nI L, nc, mf, wl, fr, tg, ld, gp, hf, sn, fn, ma, mr, so, he, sl, sg, ss, wL, wN, wC, wF, fL, fE, fR, rN, rV) (nI j) := br_f (nI_pos (by omega)) (br_f (nI_ge hj (by omega)) hp)
theorem zb_xN0 (h : ¬ zb_L L v) (hL : L ≤ 8) (hp : post 0) : wpX_isName post (lc, nI L, mf, wl, fr, tg, ld, gp, hf, sn, fn, ma, mr, so, he, sl, sg, ss, wL, wN, wC, wF, fL, fE, fR, rN, rV) v := by
  by_cases b : v < 0
  · exact br_t b hp
  · rcases zb_n h hL with a | a
    · exact absurd a b
    · exact br_f b (br_t a hp)
theorem zb_xN1 (hj : j < L) (hL : L ≤ 8) (hp : post 1) : wpX_isName post (lc, nI L, mf, wl, fr, tg, ld, gp, hf, sn, fn, ma, mr, so, he, sl, sg, ss, wL, wN, wC, wF, fL, fE, fR, rN, rV) (nI j) := br_f (nI_pos (by omega)) (br_f (nI_ge hj (by omega)) hp)
theorem zb_xR0 (h : ¬ zb_L 4 v) (hp : post 0) : wpX_isRegister post (lc, nc, mf, wl, fr, tg, ld, gp, hf, sn, fn, ma, mr, so, he, sl, sg, ss, wL, wN, wC, wF, fL, fE, fR, rN, rV) v := by
  by_cases b : v < 0
  · exact br_t b hp
  · rcases zb_n h (by decide) with a | a
    · exact absurd a b
    · exact br_f b (br_t a hp)
theorem zb_xR1 (hj : j < 4) (hp : post 1) : wpX_isRegister post (lc, nc, mf, wl, fr, tg, ld, gp, hf, sn, fn, ma, mr, so, he, sl, sg, ss, wL, wN, wC, wF, fL, fE, fR, rN, rV) (nI j) := br_f (nI_pos (by omega)) (br_f (nI_ge (b := 4) hj (by decide)) hp)
theorem zb_xS0 (h : ¬ zb_L 2 v) (hp : post 0) : wpX_isSelector post (lc, nc, mf, wl, fr, tg, ld, gp, hf, sn, fn, ma, mr, so, he, sl, sg, ss, wL, wN, wC, wF, fL, fE, fR, rN, rV) v :=
  br_f (fun e => h ⟨0, by decide, e⟩) (br_f (fun e => h ⟨1, by decide, e⟩) hp)
theorem zb_xS1 (hj : j < 2) (hp : post 1) : wpX_isSelector post (lc, nc, mf, wl, fr, tg, ld, gp, hf, sn, fn, ma, mr, so, he, sl, sg, ss, wL, wN, wC, wF, fL, fE, fR, rN, rV) (nI j) := by
  by_cases e : nI j = 0
  · exact br_t e hp
  · refine br_f e (br_t ?_ hp)
    have : j = 1 := by
      have : j ≠ 0 := fun z => e (by rw [z]; rfl)
      omega
    rw [this]; rfl
theorem zb_xM0 (h : ¬ zb_N N v) (hN : N ≤ 8) (hp : post 0) : wpX_isNameOrNone post (lc, nI N, mf, wl, fr, tg, ld, gp, hf, sn, fn, ma, mr, so, he, sl, sg, ss, wL, wN, wC, wF, fL, fE, fR, rN, rV) v := by
  refine br_f (fun e => h (Or.inl e)) ?_
  exact zb_xN0 (fun e => h (Or.inr e)) hN (br_t rfl hp)
theorem zb_xM1 (h : zb_N N v) (hN : N ≤ 8) (hp : post 1) : wpX_isNameOrNone post (lc, nI N, mf, wl, fr, tg, ld, gp, hf, sn, fn, ma, mr, so, he, sl, sg, ss, wL, wN, wC, wF, fL, fE, fR, rN, rV) v := by
  rcases h with e | ⟨j, hj, rfl⟩
  · exact br_t e hp
  · refine br_f (za_n1 (by omega)) ?_
    exact zb_xN1 hj hN (br_f za_n10 hp)
theorem zb_xC1 {c : Nat} (hc : c < 32) (h1 : c / 8 < L) (h2 : c % 8 < N) (hL : L ≤ 4) (hN : N ≤ 8) (hp : post 1) : wpX_isClass post (nI L, nI N, mf, wl, fr, tg, ld, gp, hf, sn, fn, ma, mr, so, he, sl, sg, ss, wL, wN, wC, wF, fL, fE, fR, rN, rV) (nI c) := by
  refine br_f (nI_pos (by omega)) ⟨za_n80, br_f ?_ ⟨za_n80, br_f ?_ hp⟩⟩
  · rw [za_d8 (by omega)]; exact nI_ge h1 (by omega)
  · rw [za_r8 (by omega)]; exact nI_ge h2 (by omega)
theorem zb_xC0 (h : ¬ zb_C L N v) (hL : L ≤ 4) (hN : N ≤ 8) (hp : post 0) : wpX_isClass post (nI L, nI N, mf, wl, fr, tg, ld, gp, hf, sn, fn, ma, mr, so, he, sl, sg, ss, wL, wN, wC, wF, fL, fE, fR, rN, rV) v := by
  by_cases b : v < 0
  · exact br_t b hp
  · obtain ⟨c, hc, rfl⟩ := nI_of b
    refine br_f b ⟨za_n80, ?_⟩
    have e8 := za_r8 hc
    rw [za_d8 hc] at e8 ⊢
    by_cases h1 : c / 8 < L
    · refine br_f (nI_ge h1 (by omega)) ⟨za_n80, br_t ?_ hp⟩
      rw [e8]
      refine nI_le ?_ (by omega)
      by_cases h2 : c % 8 < N
      · exact absurd (zb_Ci (by omega) h1 h2) h
      · omega
    · exact br_t (nI_le (by omega) (by omega)) hp
theorem zb_xK {F : Nat} {v1 v2 : Int32} (hN : N ≤ 8) (hF : F ≤ 8) (h1 : ¬ (zb_L 4 v1 ∧ zb_L N v2) → post (-2)) (h2 : zb_L 4 v1 ∧ zb_L N v2 → F = 0 → post (-8)) (h3 : zb_L 4 v1 ∧ zb_L N v2 → 0 < F → post 0) : wpX_checkMachine post (lc, nI N, mf, wl, nI F, tg, ld, gp, hf, sn, fn, ma, mr, so, he, sl, sg, ss, wL, wN, wC, wF, fL, fE, fR, rN, rV) v1 v2 := by
  unfold wpX_checkMachine
  by_cases a : zb_L 4 v1
  · obtain ⟨j, hj, rfl⟩ := a
    refine zb_xR1 hj (br_f za_n10 ?_)
    by_cases b : zb_L N v2
    · obtain ⟨i, hi, rfl⟩ := b
      refine zb_xN1 hi hN (br_f za_n10 ?_)
      by_cases f : F = 0
      · subst f
        exact br_t rfl (h2 ⟨⟨j, hj, rfl⟩, ⟨i, hi, rfl⟩⟩ rfl)
      · exact br_f (nI_ne0 (by omega) (by omega)) (h3 ⟨⟨j, hj, rfl⟩, ⟨i, hi, rfl⟩⟩ (by omega))
    · exact zb_xN0 b hN (br_t rfl (h1 (fun z => b z.2)))
  · exact zb_xR0 a (br_t rfl (h1 (fun z => a z.1)))
end ZBX
section ZBY
variable {lc nc mf fr : Int32} {tg ld so he sn fn hf ma mr fa fL fE fR rN rV wx wm wy wk ol os oF : Nat → Int32}
variable {post : Int32 → Prop} {L N j : Nat} {v : Int32}
theorem zb_yL0 (h : ¬ zb_L L v) (hL : L ≤ 8) (hp : post 0) : wpY_isLoader post (nI L, nc, mf, fr, tg, ld, so, he, sn, fn, hf, ma, mr, fa, fL, fE, fR, rN, rV, wx, wm, wy, wk, ol, os, oF) v := by
  by_cases b : v < 0
  · exact br_t b hp
  · rcases zb_n h hL with a | a
    · exact absurd a b
    · exact br_f b (br_t a hp)
theorem zb_yL1 (hj : j < L) (hL : L ≤ 8) (hp : post 1) : wpY_isLoader post (nI L, nc, mf, fr, tg, ld, so, he, sn, fn, hf, ma, mr, fa, fL, fE, fR, rN, rV, wx, wm, wy, wk, ol, os, oF) (nI j) := br_f (nI_pos (by omega)) (br_f (nI_ge hj (by omega)) hp)
theorem zb_yN0 (h : ¬ zb_L L v) (hL : L ≤ 8) (hp : post 0) : wpY_isName post (lc, nI L, mf, fr, tg, ld, so, he, sn, fn, hf, ma, mr, fa, fL, fE, fR, rN, rV, wx, wm, wy, wk, ol, os, oF) v := by
  by_cases b : v < 0
  · exact br_t b hp
  · rcases zb_n h hL with a | a
    · exact absurd a b
    · exact br_f b (br_t a hp)
theorem zb_yN1 (hj : j < L) (hL : L ≤ 8) (hp : post 1) : wpY_isName post (lc, nI L, mf, fr, tg, ld, so, he, sn, fn, hf, ma, mr, fa, fL, fE, fR, rN, rV, wx, wm, wy, wk, ol, os, oF) (nI j) := br_f (nI_pos (by omega)) (br_f (nI_ge hj (by omega)) hp)
theorem zb_yR0 (h : ¬ zb_L 4 v) (hp : post 0) : wpY_isReg post (lc, nc, mf, fr, tg, ld, so, he, sn, fn, hf, ma, mr, fa, fL, fE, fR, rN, rV, wx, wm, wy, wk, ol, os, oF) v := by
  by_cases b : v < 0
  · exact br_t b hp
  · rcases zb_n h (by decide) with a | a
    · exact absurd a b
    · exact br_f b (br_t a hp)
theorem zb_yR1 (hj : j < 4) (hp : post 1) : wpY_isReg post (lc, nc, mf, fr, tg, ld, so, he, sn, fn, hf, ma, mr, fa, fL, fE, fR, rN, rV, wx, wm, wy, wk, ol, os, oF) (nI j) := br_f (nI_pos (by omega)) (br_f (nI_ge (b := 4) hj (by decide)) hp)
theorem zb_yC1 {c : Nat} (hc : c < 32) (h1 : c / 8 < L) (h2 : c % 8 < N) (hL : L ≤ 4) (hN : N ≤ 8) (hp : post 1) : wpY_isClass post (nI L, nI N, mf, fr, tg, ld, so, he, sn, fn, hf, ma, mr, fa, fL, fE, fR, rN, rV, wx, wm, wy, wk, ol, os, oF) (nI c) := by
  refine br_f (nI_pos (by omega)) ⟨za_n80, br_f ?_ ⟨za_n80, br_f ?_ hp⟩⟩
  · rw [za_d8 (by omega)]; exact nI_ge h1 (by omega)
  · rw [za_r8 (by omega)]; exact nI_ge h2 (by omega)
theorem zb_yC0 (h : ¬ zb_C L N v) (hL : L ≤ 4) (hN : N ≤ 8) (hp : post 0) : wpY_isClass post (nI L, nI N, mf, fr, tg, ld, so, he, sn, fn, hf, ma, mr, fa, fL, fE, fR, rN, rV, wx, wm, wy, wk, ol, os, oF) v := by
  by_cases b : v < 0
  · exact br_t b hp
  · obtain ⟨c, hc, rfl⟩ := nI_of b
    refine br_f b ⟨za_n80, ?_⟩
    have e8 := za_r8 hc
    rw [za_d8 hc] at e8 ⊢
    by_cases h1 : c / 8 < L
    · refine br_f (nI_ge h1 (by omega)) ⟨za_n80, br_t ?_ hp⟩
      rw [e8]
      refine nI_le ?_ (by omega)
      by_cases h2 : c % 8 < N
      · exact absurd (zb_Ci (by omega) h1 h2) h
      · omega
    · exact br_t (nI_le (by omega) (by omega)) hp
end ZBY
end
section
/-! saving, undoing, registers, frames: each side by itself -/
/-- k cells from b on made NONE -/
def zc_w (b : Nat) (a : Nat → Int32) : Nat → Nat → Int32
  | 0 => a
  | k + 1 => upd (zc_w b a k) (b + k) (-1)
theorem zc_w_o {b : Nat} {a : Nat → Int32} : ∀ (k j : Nat), (j < b ∨ b + k ≤ j) → zc_w b a k j = a j := by
  intro k
  induction k with
  | zero => intro j _; rfl
  | succ k ih =>
    intro j hj
    show upd (zc_w b a k) (b + k) (-1) j = a j
    rw [pk_un (by omega), ih j (by omega)]
theorem zc_w_i {b : Nat} {a : Nat → Int32} : ∀ (k j : Nat), b ≤ j → j < b + k → zc_w b a k j = -1 := by
  intro k
  induction k with
  | zero => intro j _ _; omega
  | succ k ih =>
    intro j h1 h2
    show upd (zc_w b a k) (b + k) (-1) j = -1
    rcases zu_c (f := zc_w b a k) (k := b + k) (j := j) (x := -1) with ⟨_, e⟩ | ⟨h, e⟩
    · exact e
    · rw [e, ih j h1 (by omega)]
section ZCX
variable {lc nc mf wl fr : Int32} {tg ld gp hf sn fn ma mr so he sl sg ss wL wN wC wF fL fE fR rN rV : Nat → Int32}
theorem zc_xs2 {post : SX → Prop} (hp : post (lc, nc, mf, wl, fr, tg, ld, gp, hf, sn, fn, ma, mr, so, he, zu_mx 32 ld sl, zu_mx 32 gp sg, zu_mx 32 so ss, wL, wN, wC, wF, fL, fE, fR, rN, rV)) : ∀ k i : Nat, i + k = 32 → wX_save_2 post lc nc mf wl fr (k + 1) (nI i) tg ld gp hf sn fn ma mr so he (zu_mx i ld sl) (zu_mx i gp sg) (zu_mx i so ss) wL wN wC wF fL fE fR rN rV := by
  intro k
  induction k with
  | zero =>
    intro i hi
    obtain rfl : i = 32 := by omega
    exact br_t (za_ge 32 (by omega) (by omega)) hp
  | succ k ih =>
    intro i hi
    have hv : vp_in (nI i) 32 := vp_in_nI (by omega) (by omega)
    have hc : (nI i).toNatClampNeg = i := nI_clamp (by omega)
    refine br_f (za_nge 32 (by omega)) ⟨hv, hv, nm_r (e' := zu_mx (i + 1) ld sl) (by rw [hc, zu_mxs]) ⟨hv, hv, nm_r (e' := zu_mx (i + 1) gp sg) (by rw [hc, zu_mxs]) ⟨hv, hv, nm_r (e' := zu_mx (i + 1) so ss) (by rw [hc, zu_mxs]) (nm_r (nI_1 i) ?_)⟩⟩⟩
    exact ih (i + 1) (by omega)
theorem zc_xsave {post : SX → Prop} (hp : post (lc, nc, mf, wl, fr, tg, ld, gp, hf, sn, fn, ma, mr, so, he, zu_mx 32 ld sl, zu_mx 32 gp sg, zu_mx 32 so ss, wL, wN, wC, wF, fL, fE, fR, rN, rV)) : wpX_save post (lc, nc, mf, wl, fr, tg, ld, gp, hf, sn, fn, ma, mr, so, he, sl, sg, ss, wL, wN, wC, wF, fL, fE, fR, rN, rV) := by
  have h := zc_xs2 hp 32 0 rfl
  rw [zu_mx0, zu_mx0, zu_mx0] at h
  exact ⟨33, h⟩
theorem zc_xt8 {post : Int32 → SX → Prop} {r : Int32} (hp : post r (lc, nc, mf, wl, fr, tg, zu_mx 32 sl ld, zu_mx 32 sg gp, hf, sn, fn, ma, mr, zu_mx 32 ss so, he, sl, sg, ss, wL, wN, wC, wF, fL, fE, fR, rN, rV)) : ∀ k i : Nat, i + k = 32 → wX_settle_8 post r lc nc mf wl fr (k + 1) (nI i) tg (zu_mx i sl ld) (zu_mx i sg gp) hf sn fn ma mr (zu_mx i ss so) he sl sg ss wL wN wC wF fL fE fR rN rV := by
  intro k
  induction k with
  | zero =>
    intro i hi
    obtain rfl : i = 32 := by omega
    exact br_t (za_ge 32 (by omega) (by omega)) hp
  | succ k ih =>
    intro i hi
    have hv : vp_in (nI i) 32 := vp_in_nI (by omega) (by omega)
    have hc : (nI i).toNatClampNeg = i := nI_clamp (by omega)
    refine br_f (za_nge 32 (by omega)) ⟨hv, hv, nm_r (e' := zu_mx (i + 1) sl ld) (by rw [hc, zu_mxs]) ⟨hv, hv, nm_r (e' := zu_mx (i + 1) sg gp) (by rw [hc, zu_mxs]) ⟨hv, hv, nm_r (e' := zu_mx (i + 1) ss so) (by rw [hc, zu_mxs]) (nm_r (nI_1 i) ?_)⟩⟩⟩
    exact ih (i + 1) (by omega)
theorem zc_xkeep {post : Int32 → SX → Prop} {r : Int32} (h : (-2) < r) (hp : post r (lc, nc, mf, wl, fr, tg, ld, gp, hf, sn, fn, ma, mr, so, he, sl, sg, ss, wL, wN, wC, wF, fL, fE, fR, rN, rV)) : wpX_settle post (lc, nc, mf, wl, fr, tg, ld, gp, hf, sn, fn, ma, mr, so, he, sl, sg, ss, wL, wN, wC, wF, fL, fE, fR, rN, rV) r := br_t h hp
theorem zc_xundo {post : Int32 → SX → Prop} {r : Int32} {ld0 gp0 so0 : Nat → Int32} (h : ¬ (-2) < r)
    (h1 : ∀ j, j < 32 → sl j = ld0 j) (h2 : ∀ j, j < 32 → sg j = gp0 j) (h3 : ∀ j, j < 32 → ss j = so0 j)
    (k1 : ∀ j, 32 ≤ j → ld j = ld0 j) (k2 : ∀ j, 32 ≤ j → gp j = gp0 j) (k3 : ∀ j, 32 ≤ j → so j = so0 j)
    (hp : post r (lc, nc, mf, wl, fr, tg, ld0, gp0, hf, sn, fn, ma, mr, so0, he, sl, sg, ss, wL, wN, wC, wF, fL, fE, fR, rN, rV)) : wpX_settle post (lc, nc, mf, wl, fr, tg, ld, gp, hf, sn, fn, ma, mr, so, he, sl, sg, ss, wL, wN, wC, wF, fL, fE, fR, rN, rV) r := by
  refine br_f h ⟨33, ?_⟩
  have e1 : zu_mx 32 sl ld = ld0 := zu_back h1 k1
  have e2 : zu_mx 32 sg gp = gp0 := zu_back h2 k2
  have e3 : zu_mx 32 ss so = so0 := zu_back h3 k3
  have hp' : post r (lc, nc, mf, wl, fr, tg, zu_mx 32 sl ld, zu_mx 32 sg gp, hf, sn, fn, ma, mr, zu_mx 32 ss so, he, sl, sg, ss, wL, wN, wC, wF, fL, fE, fR, rN, rV) := by rw [e1, e2, e3]; exact hp
  have := zc_xt8 hp' 32 0 rfl
  rw [zu_mx0, zu_mx0, zu_mx0] at this
  exact this
theorem zc_xtop {post : SX → Prop} {F r : Nat} {a b : Int32} (h0 : 0 < F) (hF : F ≤ 8) (hr : r < 4) (hp : post (lc, nc, mf, wl, nI F, tg, ld, gp, hf, sn, fn, ma, mr, so, he, sl, sg, ss, wL, wN, wC, wF, fL, fE, fR, upd rN (4 * (F - 1) + r) a, upd rV (4 * (F - 1) + r) b)) : wpX_setTop post (lc, nc, mf, wl, nI F, tg, ld, gp, hf, sn, fn, ma, mr, so, he, sl, sg, ss, wL, wN, wC, wF, fL, fE, fR, rN, rV) (nI r) a b := by
  have hv : vp_in (nI (4 * (F - 1) + r)) 32 := vp_in_nI (by omega) (by omega)
  have hc : (nI (4 * (F - 1) + r)).toNatClampNeg = 4 * (F - 1) + r := nI_clamp (by omega)
  refine nm_r (e' := nI (4 * (F - 1) + r)) (by rw [za_p h0, za_4]) ⟨hv, nm_r (e' := upd rN (4 * (F - 1) + r) a) (by rw [hc]) ⟨hv, nm_r (e' := upd rV (4 * (F - 1) + r) b) (by rw [hc]) hp⟩⟩
theorem zc_xp4 {post : SX → Prop} {F : Nat} (hF : F < 8) (hp : post (lc, nc, mf, wl, nI (F + 1), tg, ld, gp, hf, sn, fn, ma, mr, so, he, sl, sg, ss, wL, wN, wC, wF, fL, fE, fR, zc_w (4 * F) rN 4, zc_w (4 * F) rV 4)) : ∀ k i : Nat, i + k = 4 → wX_pushFrame_43 post (k + 1) (nI i) lc nc mf wl (nI (F + 1)) tg ld gp hf sn fn ma mr so he sl sg ss wL wN wC wF fL fE fR (zc_w (4 * F) rN i) (zc_w (4 * F) rV i) := by
  intro k
  induction k with
  | zero =>
    intro i hi
    obtain rfl : i = 4 := by omega
    exact br_t (za_ge 4 (by omega) (by omega)) hp
  | succ k ih =>
    intro i hi
    refine br_f (za_nge 4 (by omega)) ?_
    refine zc_xtop (by omega) (by omega) (by omega) ?_
    refine nm_r (nI_1 i) ?_
    exact ih (i + 1) (by omega)
theorem zc_xpush {post : SX → Prop} {F : Nat} {a b c : Int32} (hF : F < 8) (hp : post (lc, nc, mf, wl, nI (F + 1), tg, ld, gp, hf, sn, fn, ma, mr, so, he, sl, sg, ss, wL, wN, wC, wF, upd fL F a, upd fE F b, upd fR F c, zc_w (4 * F) rN 4, zc_w (4 * F) rV 4)) : wpX_pushFrame post (lc, nc, mf, wl, nI F, tg, ld, gp, hf, sn, fn, ma, mr, so, he, sl, sg, ss, wL, wN, wC, wF, fL, fE, fR, rN, rV) a b c := by
  have hv : vp_in (nI F) 8 := vp_in_nI hF (by omega)
  have hc : (nI F).toNatClampNeg = F := nI_clamp (by omega)
  refine ⟨hv, nm_r (e' := upd fL F a) (by rw [hc]) ⟨hv, nm_r (e' := upd fE F b) (by rw [hc]) ⟨hv, nm_r (e' := upd fR F c) (by rw [hc]) (nm_r (nI_1 F) ⟨5, ?_⟩)⟩⟩⟩
  exact zc_xp4 hF hp 4 0 rfl
end ZCX
section ZCY
variable {lc nc mf fr : Int32} {tg ld so he sn fn hf ma mr fa fL fE fR rN rV wx wm wy wk ol os oF : Nat → Int32}
theorem zc_ys40 {post : SY → Prop} (h01 : ∀ j, j < 128 → fa j = 0 ∨ fa j = 1) (hp : post (lc, nc, mf, fr, tg, ld, so, he, sn, fn, hf, ma, mr, fa, fL, fE, fR, rN, rV, wx, wm, wy, wk, ol, os, zu_mx 128 fa oF)) : ∀ k i : Nat, i + k = 128 → wY_save_40 post lc nc mf fr (k + 1) (nI i) tg ld so he sn fn hf ma mr fa fL fE fR rN rV wx wm wy wk ol os (zu_mx i fa oF) := by
  intro k
  induction k with
  | zero =>
    intro i hi
    obtain rfl : i = 128 := by omega
    exact br_t (za_ge 128 (by omega) (by omega)) hp
  | succ k ih =>
    intro i hi
    have hv : vp_in (nI i) 128 := vp_in_nI (by omega) (by omega)
    have hc : (nI i).toNatClampNeg = i := nI_clamp (by omega)
    refine br_f (za_nge 128 (by omega)) ⟨hv, hv, nm_r (e' := zu_mx (i + 1) fa oF) (by rw [hc, za_b01 (h01 i (by omega)), zu_mxs]) (nm_r (nI_1 i) ?_)⟩
    exact ih (i + 1) (by omega)
theorem zc_ys2 {post : SY → Prop} (h01 : ∀ j, j < 128 → fa j = 0 ∨ fa j = 1) (hp : post (lc, nc, mf, fr, tg, ld, so, he, sn, fn, hf, ma, mr, fa, fL, fE, fR, rN, rV, wx, wm, wy, wk, zu_mx 32 ld ol, zu_mx 32 so os, zu_mx 128 fa oF)) : ∀ k i : Nat, i + k = 32 → wY_save_2 post lc nc mf fr (k + 1) (nI i) tg ld so he sn fn hf ma mr fa fL fE fR rN rV wx wm wy wk (zu_mx i ld ol) (zu_mx i so os) oF := by
  intro k
  induction k with
  | zero =>
    intro i hi
    obtain rfl : i = 32 := by omega
    refine br_t (za_ge 32 (by omega) (by omega)) ⟨129, ?_⟩
    have h := zc_ys40 (post := post) (ol := zu_mx 32 ld ol) (os := zu_mx 32 so os) h01 hp 128 0 rfl
    rw [zu_mx0] at h
    exact h
  | succ k ih =>
    intro i hi
    have hv : vp_in (nI i) 32 := vp_in_nI (by omega) (by omega)
    have hc : (nI i).toNatClampNeg = i := nI_clamp (by omega)
    refine br_f (za_nge 32 (by omega)) ⟨hv, hv, nm_r (e' := zu_mx (i + 1) ld ol) (by rw [hc, zu_mxs]) ⟨hv, hv, nm_r (e' := zu_mx (i + 1) so os) (by rw [hc, zu_mxs]) (nm_r (nI_1 i) ?_)⟩⟩
    exact ih (i + 1) (by omega)
theorem zc_ysave {post : SY → Prop} (h01 : ∀ j, j < 128 → fa j = 0 ∨ fa j = 1) (hp : post (lc, nc, mf, fr, tg, ld, so, he, sn, fn, hf, ma, mr, fa, fL, fE, fR, rN, rV, wx, wm, wy, wk, zu_mx 32 ld ol, zu_mx 32 so os, zu_mx 128 fa oF)) : wpY_save post (lc, nc, mf, fr, tg, ld, so, he, sn, fn, hf, ma, mr, fa, fL, fE, fR, rN, rV, wx, wm, wy, wk, ol, os, oF) := by
  have h := zc_ys2 h01 hp 32 0 rfl
  rw [zu_mx0, zu_mx0] at h
  exact ⟨33, h⟩
theorem zc_yu40 {post : Int32 → SY → Prop} {r : Int32} (h01 : ∀ j, j < 128 → oF j = 0 ∨ oF j = 1) (hp : post r (lc, nc, mf, fr, tg, ld, so, he, sn, fn, hf, ma, mr, zu_mx 128 oF fa, fL, fE, fR, rN, rV, wx, wm, wy, wk, ol, os, oF)) : ∀ k i : Nat, i + k = 128 → wY_undo_40 post r lc nc mf fr (k + 1) (nI i) tg ld so he sn fn hf ma mr (zu_mx i oF fa) fL fE fR rN rV wx wm wy wk ol os oF := by
  intro k
  induction k with
  | zero =>
    intro i hi
    obtain rfl : i = 128 := by omega
    exact br_t (za_ge 128 (by omega) (by omega)) hp
  | succ k ih =>
    intro i hi
    have hv : vp_in (nI i) 128 := vp_in_nI (by omega) (by omega)
    have hc : (nI i).toNatClampNeg = i := nI_clamp (by omega)
    refine br_f (za_nge 128 (by omega)) ⟨hv, hv, nm_r (e' := zu_mx (i + 1) oF fa) (by rw [hc, za_b01 (h01 i (by omega)), zu_mxs]) (nm_r (nI_1 i) ?_)⟩
    exact ih (i + 1) (by omega)
theorem zc_yu2 {post : Int32 → SY → Prop} {r : Int32} (h01 : ∀ j, j < 128 → oF j = 0 ∨ oF j = 1) (hp : post r (lc, nc, mf, fr, tg, zu_mx 32 ol ld, zu_mx 32 os so, he, sn, fn, hf, ma, mr, zu_mx 128 oF fa, fL, fE, fR, rN, rV, wx, wm, wy, wk, ol, os, oF)) : ∀ k i : Nat, i + k = 32 → wY_undo_2 post r lc nc mf fr (k + 1) (nI i) tg (zu_mx i ol ld) (zu_mx i os so) he sn fn hf ma mr fa fL fE fR rN rV wx wm wy wk ol os oF := by
  intro k
  induction k with
  | zero =>
    intro i hi
    obtain rfl : i = 32 := by omega
    refine br_t (za_ge 32 (by omega) (by omega)) ⟨129, ?_⟩
    have h := zc_yu40 (post := post) (ld := zu_mx 32 ol ld) (so := zu_mx 32 os so) h01 hp 128 0 rfl
    rw [zu_mx0] at h
    exact h
  | succ k ih =>
    intro i hi
    have hv : vp_in (nI i) 32 := vp_in_nI (by omega) (by omega)
    have hc : (nI i).toNatClampNeg = i := nI_clamp (by omega)
    refine br_f (za_nge 32 (by omega)) ⟨hv, hv, nm_r (e' := zu_mx (i + 1) ol ld) (by rw [hc, zu_mxs]) ⟨hv, hv, nm_r (e' := zu_mx (i + 1) os so) (by rw [hc, zu_mxs]) (nm_r (nI_1 i) ?_)⟩⟩
    exact ih (i + 1) (by omega)
theorem zc_yundo {post : Int32 → SY → Prop} {r : Int32} {ld0 so0 fa0 : Nat → Int32} (h01 : ∀ j, j < 128 → fa0 j = 0 ∨ fa0 j = 1)
    (h1 : ∀ j, j < 32 → ol j = ld0 j) (h2 : ∀ j, j < 32 → os j = so0 j) (h3 : ∀ j, j < 128 → oF j = fa0 j)
    (k1 : ∀ j, 32 ≤ j → ld j = ld0 j) (k2 : ∀ j, 32 ≤ j → so j = so0 j) (k3 : ∀ j, 128 ≤ j → fa j = fa0 j)
    (hp : post r (lc, nc, mf, fr, tg, ld0, so0, he, sn, fn, hf, ma, mr, fa0, fL, fE, fR, rN, rV, wx, wm, wy, wk, ol, os, oF)) : wpY_undo post (lc, nc, mf, fr, tg, ld, so, he, sn, fn, hf, ma, mr, fa, fL, fE, fR, rN, rV, wx, wm, wy, wk, ol, os, oF) r := by
  refine ⟨33, ?_⟩
  have e1 : zu_mx 32 ol ld = ld0 := zu_back h1 k1
  have e2 : zu_mx 32 os so = so0 := zu_back h2 k2
  have e3 : zu_mx 128 oF fa = fa0 := zu_back h3 k3
  have hp' : post r (lc, nc, mf, fr, tg, zu_mx 32 ol ld, zu_mx 32 os so, he, sn, fn, hf, ma, mr, zu_mx 128 oF fa, fL, fE, fR, rN, rV, wx, wm, wy, wk, ol, os, oF) := by rw [e1, e2, e3]; exact hp
  have := zc_yu2 (fun j hj => by rw [h3 j hj]; exact h01 j hj) hp' 32 0 rfl
  rw [zu_mx0, zu_mx0] at this
  exact this
theorem zc_yreg {post : SY → Prop} {t r : Nat} {a b : Int32} (ht : t < 8) (hr : r < 4) (hp : post (lc, nc, mf, fr, tg, ld, so, he, sn, fn, hf, ma, mr, fa, fL, fE, fR, upd rN (4 * t + r) a, upd rV (4 * t + r) b, wx, wm, wy, wk, ol, os, oF)) : wpY_setReg post (lc, nc, mf, fr, tg, ld, so, he, sn, fn, hf, ma, mr, fa, fL, fE, fR, rN, rV, wx, wm, wy, wk, ol, os, oF) (nI t) (nI r) a b := by
  have hv : vp_in (nI t * 4 + nI r) 32 := za_i4y ht hr
  have hc : (nI t * 4 + nI r).toNatClampNeg = 4 * t + r := za_c4y (by omega)
  exact ⟨hv, nm_r (e' := upd rN (4 * t + r) a) (by rw [hc]) ⟨hv, nm_r (e' := upd rV (4 * t + r) b) (by rw [hc]) hp⟩⟩
theorem zc_yp4 {post : SY → Prop} {F : Nat} (hF : F < 8) (hp : post (lc, nc, mf, nI (F + 1), tg, ld, so, he, sn, fn, hf, ma, mr, fa, fL, fE, fR, zc_w (4 * F) rN 4, zc_w (4 * F) rV 4, wx, wm, wy, wk, ol, os, oF)) : ∀ k i : Nat, i + k = 4 → wY_push_33 post (k + 1) (nI i) lc nc mf (nI F) tg ld so he sn fn hf ma mr fa fL fE fR (zc_w (4 * F) rN i) (zc_w (4 * F) rV i) wx wm wy wk ol os oF := by
  intro k
  induction k with
  | zero =>
    intro i hi
    obtain rfl : i = 4 := by omega
    exact br_t (za_ge 4 (by omega) (by omega)) (nm_r (nI_1 F) hp)
  | succ k ih =>
    intro i hi
    refine br_f (za_nge 4 (by omega)) ?_
    refine zc_yreg hF (by omega) ?_
    refine nm_r (nI_1 i) ?_
    exact ih (i + 1) (by omega)
theorem zc_ypush {post : SY → Prop} {F : Nat} {a b c : Int32} (hF : F < 8) (hp : post (lc, nc, mf, nI (F + 1), tg, ld, so, he, sn, fn, hf, ma, mr, fa, upd fL F a, upd fE F b, upd fR F c, zc_w (4 * F) rN 4, zc_w (4 * F) rV 4, wx, wm, wy, wk, ol, os, oF)) : wpY_push post (lc, nc, mf, nI F, tg, ld, so, he, sn, fn, hf, ma, mr, fa, fL, fE, fR, rN, rV, wx, wm, wy, wk, ol, os, oF) a b c := by
  have hv : vp_in (nI F) 8 := vp_in_nI hF (by omega)
  have hc : (nI F).toNatClampNeg = F := nI_clamp (by omega)
  refine ⟨hv, nm_r (e' := upd fL F a) (by rw [hc]) ⟨hv, nm_r (e' := upd fE F b) (by rw [hc]) ⟨hv, nm_r (e' := upd fR F c) (by rw [hc]) ⟨5, ?_⟩⟩⟩⟩
  exact zc_yp4 hF hp 4 0 rfl
theorem zc_yready {post : Int32 → SY → Prop} {N F : Nat} {v1 v2 : Int32} (h01 : ∀ j, j < 128 → fa j = 0 ∨ fa j = 1) (hN : N ≤ 8) (hF : F ≤ 8)
    (h1 : ¬ (zb_L 4 v1 ∧ zb_L N v2) → post (-2) (lc, nI N, mf, nI F, tg, ld, so, he, sn, fn, hf, ma, mr, fa, fL, fE, fR, rN, rV, wx, wm, wy, wk, zu_mx 32 ld ol, zu_mx 32 so os, zu_mx 128 fa oF))
    (h2 : zb_L 4 v1 ∧ zb_L N v2 → F = 0 → post (-8) (lc, nI N, mf, nI F, tg, ld, so, he, sn, fn, hf, ma, mr, fa, fL, fE, fR, rN, rV, wx, wm, wy, wk, zu_mx 32 ld ol, zu_mx 32 so os, zu_mx 128 fa oF))
    (h3 : zb_L 4 v1 ∧ zb_L N v2 → 0 < F → post 0 (lc, nI N, mf, nI F, tg, ld, so, he, sn, fn, hf, ma, mr, fa, fL, fE, fR, rN, rV, wx, wm, wy, wk, zu_mx 32 ld ol, zu_mx 32 so os, zu_mx 128 fa oF)) : wpY_ready post (lc, nI N, mf, nI F, tg, ld, so, he, sn, fn, hf, ma, mr, fa, fL, fE, fR, rN, rV, wx, wm, wy, wk, ol, os, oF) v1 v2 := by
  unfold wpY_ready
  refine zc_ysave h01 ?_
  by_cases a : zb_L 4 v1
  · obtain ⟨j, hj, rfl⟩ := a
    refine zb_yR1 hj (br_f za_n10 ?_)
    by_cases b : zb_L N v2
    · obtain ⟨i, hi, rfl⟩ := b
      refine zb_yN1 hi hN (br_f za_n10 ?_)
      by_cases f : F = 0
      · exact br_t (by rw [f]; rfl) (h2 ⟨⟨j, hj, rfl⟩, ⟨i, hi, rfl⟩⟩ f)
      · exact br_f (nI_ne0 (by omega) (by omega)) (h3 ⟨⟨j, hj, rfl⟩, ⟨i, hi, rfl⟩⟩ (by omega))
    · exact zb_yN0 b hN (br_t rfl (h1 (fun z => b z.2)))
  · exact zb_yR0 a (br_t rfl (h1 (fun z => a z.1)))
end ZCY
end
section
/-! ties: the groups of the component are the classes of the reference's facts -/
def zg_c (fa : Nat → Int32) (n : Nat) (S : Nat → Prop) : Prop := ∀ x, x < 4 → ∀ y, y < 4 → ¬ fa (16 * n + (4 * x + y)) = 0 → (S x ↔ S y)
def zg_G (gp fa : Nat → Int32) : Prop :=
  (∀ n, n < 8 → ∀ x, x < 4 → ∀ y, y < 4 → ¬ fa (16 * n + (4 * x + y)) = 0 → gp (8 * x + n) = gp (8 * y + n)) ∧
  (∀ n, n < 8 → ∀ S : Nat → Prop, zg_c fa n S → ∀ x, x < 4 → ∀ y, y < 4 → gp (8 * x + n) = gp (8 * y + n) → (S x ↔ S y)) ∧
  (∀ j, j < 128 → fa j = 0 ∨ fa j = 1)
/-- the component's merge after k loaders -/
def zg_m (gp : Nat → Int32) (n : Nat) (a b : Int32) (k : Nat) : Nat → Int32 := fun c => if c % 8 = n ∧ c / 8 < k ∧ gp c = b then a else gp c
theorem zg_m0 {gp : Nat → Int32} {n : Nat} {a b : Int32} : zg_m gp n a b 0 = gp := by
  funext c; exact if_neg (fun h => by omega)
theorem zg_ms {gp : Nat → Int32} {n k : Nat} {a b : Int32} (hn : n < 8) : (zg_m gp n a b k (8 * k + n) = b ∧ upd (zg_m gp n a b k) (8 * k + n) a = zg_m gp n a b (k + 1)) ∨ (¬ zg_m gp n a b k (8 * k + n) = b ∧ zg_m gp n a b k = zg_m gp n a b (k + 1)) := by
  have e0 : zg_m gp n a b k (8 * k + n) = gp (8 * k + n) := if_neg (fun h => by omega)
  rw [e0]
  by_cases h : gp (8 * k + n) = b
  · refine Or.inl ⟨h, ?_⟩
    funext c
    rcases zu_c (f := zg_m gp n a b k) (k := 8 * k + n) (j := c) (x := a) with ⟨e, h'⟩ | ⟨e, h'⟩
    · rw [h', e]
      exact (if_pos ⟨by omega, by omega, h⟩).symm
    · rw [h']
      by_cases h2 : c % 8 = n ∧ c / 8 < k ∧ gp c = b
      · exact (if_pos h2).trans (if_pos ⟨h2.1, by omega, h2.2.2⟩).symm
      · exact (if_neg h2).trans (if_neg (fun z => h2 ⟨z.1, by omega, z.2.2⟩)).symm
  · refine Or.inr ⟨h, ?_⟩
    funext c
    by_cases h2 : c % 8 = n ∧ c / 8 < k ∧ gp c = b
    · exact (if_pos h2).trans (if_pos ⟨h2.1, by omega, h2.2.2⟩).symm
    · refine (if_neg h2).trans (if_neg (fun z => h2 ⟨z.1, ?_, z.2.2⟩)).symm
      by_cases h3 : c / 8 = k
      · have : c = 8 * k + n := by omega
        rw [this] at z
        exact absurd z.2.2 h
      · omega
theorem zg_mv {gp : Nat → Int32} {n u : Nat} {a b : Int32} (hn : n < 8) (hu : u < 4) : (gp (8 * u + n) = b ∧ zg_m gp n a b 4 (8 * u + n) = a) ∨ (¬ gp (8 * u + n) = b ∧ zg_m gp n a b 4 (8 * u + n) = gp (8 * u + n)) := by
  by_cases h : gp (8 * u + n) = b
  · exact Or.inl ⟨h, if_pos ⟨by omega, by omega, h⟩⟩
  · exact Or.inr ⟨h, if_neg (fun z => h z.2.2)⟩
theorem zg_mo {gp : Nat → Int32} {n m u : Nat} {a b : Int32} (hm : m < 8) (h : m ≠ n) : zg_m gp n a b 4 (8 * u + m) = gp (8 * u + m) := if_neg (fun z => by omega)
theorem zg_m32 {gp : Nat → Int32} {n j : Nat} {a b : Int32} (h : 32 ≤ j) : zg_m gp n a b 4 j = gp j := if_neg (fun z => by omega)
theorem zg_tie {gp fa : Nat → Int32} {n x y : Nat} (h : zg_G gp fa) (hn : n < 8) (hx : x < 4) (hy : y < 4) :
    zg_G (zg_m gp n (gp (8 * x + n)) (gp (8 * y + n)) 4) (upd fa (16 * n + (4 * x + y)) 1) := by
  obtain ⟨h1, h2, h3⟩ := h
  refine ⟨?_, ?_, ?_⟩
  · intro n' hn' u hu v hv hf
    by_cases e : n' = n
    · subst e
      have hor : gp (8 * u + n') = gp (8 * v + n') ∨ (u = x ∧ v = y) := by
        by_cases e2 : 16 * n' + (4 * u + v) = 16 * n' + (4 * x + y)
        · exact Or.inr ⟨by omega, by omega⟩
        · rw [pk_un e2] at hf
          exact Or.inl (h1 n' hn' u hu v hv hf)
      rcases hor with e3 | ⟨rfl, rfl⟩
      · rcases zg_mv (gp := gp) (n := n') (u := u) (a := gp (8 * x + n')) (b := gp (8 * y + n')) hn hu with ⟨a1, a2⟩ | ⟨a1, a2⟩
        · rcases zg_mv (gp := gp) (n := n') (u := v) (a := gp (8 * x + n')) (b := gp (8 * y + n')) hn hv with ⟨b1, b2⟩ | ⟨b1, b2⟩
          · rw [a2, b2]
          · exact absurd (e3.symm.trans a1) b1
        · rcases zg_mv (gp := gp) (n := n') (u := v) (a := gp (8 * x + n')) (b := gp (8 * y + n')) hn hv with ⟨b1, b2⟩ | ⟨b1, b2⟩
          · exact absurd (e3.trans b1) a1
          · rw [a2, b2, e3]
      · rcases zg_mv (gp := gp) (n := n') (u := u) (a := gp (8 * u + n')) (b := gp (8 * v + n')) hn hu with ⟨a1, a2⟩ | ⟨a1, a2⟩
        · rcases zg_mv (gp := gp) (n := n') (u := v) (a := gp (8 * u + n')) (b := gp (8 * v + n')) hn hv with ⟨b1, b2⟩ | ⟨b1, b2⟩
          · rw [a2, b2]
          · exact absurd rfl b1
        · rcases zg_mv (gp := gp) (n := n') (u := v) (a := gp (8 * u + n')) (b := gp (8 * v + n')) hn hv with ⟨b1, b2⟩ | ⟨b1, b2⟩
          · rw [a2, b2]
          · exact absurd rfl b1
    · rw [zg_mo hn' e, zg_mo hn' e]
      rw [pk_un (by omega)] at hf
      exact h1 n' hn' u hu v hv hf
  · intro n' hn' S hS u hu v hv hg
    by_cases e : n' = n
    · subst e
      have hS0 : zg_c fa n' S := by
        intro a ha b hb hf
        refine hS a ha b hb ?_
        rcases zu_c (f := fa) (k := 16 * n' + (4 * x + y)) (j := 16 * n' + (4 * a + b)) (x := 1) with ⟨_, e2⟩ | ⟨_, e2⟩
        · rw [e2]; decide
        · rw [e2]; exact hf
      have hxy : S x ↔ S y := hS x hx y hy (by rw [pk_us]; decide)
      have H := h2 n' hn' S hS0
      rcases zg_mv (gp := gp) (n := n') (u := u) (a := gp (8 * x + n')) (b := gp (8 * y + n')) hn hu with ⟨a1, a2⟩ | ⟨a1, a2⟩
      · rcases zg_mv (gp := gp) (n := n') (u := v) (a := gp (8 * x + n')) (b := gp (8 * y + n')) hn hv with ⟨b1, b2⟩ | ⟨b1, b2⟩
        · exact H u hu v hv (a1.trans b1.symm)
        · rw [a2, b2] at hg
          exact ((H u hu y hy a1).trans hxy.symm).trans (H x hx v hv hg)
      · rcases zg_mv (gp := gp) (n := n') (u := v) (a := gp (8 * x + n')) (b := gp (8 * y + n')) hn hv with ⟨b1, b2⟩ | ⟨b1, b2⟩
        · rw [a2, b2] at hg
          exact ((H u hu x hx hg).trans hxy).trans (H y hy v hv b1.symm)
        · rw [a2, b2] at hg
          exact H u hu v hv hg
    · rw [zg_mo hn' e, zg_mo hn' e] at hg
      refine h2 n' hn' S ?_ u hu v hv hg
      intro a ha b hb hf
      exact hS a ha b hb (by rw [pk_un (by omega)]; exact hf)
  · intro j hj
    rcases zu_c (f := fa) (k := 16 * n + (4 * x + y)) (j := j) (x := 1) with ⟨_, e2⟩ | ⟨_, e2⟩
    · rw [e2]; exact Or.inr rfl
    · rw [e2]; exact h3 j hj
section ZGX
variable {lc nc mf wl fr : Int32} {tg ld gp hf sn fn ma mr so he sl sg ss wL wN wC wF fL fE fR rN rV : Nat → Int32}
theorem zg_x29 {post : SX → Prop} {n : Nat} {a b : Int32} (hn : n < 8) (hp : post (lc, nc, mf, wl, fr, tg, ld, zg_m gp n a b 4, hf, sn, fn, ma, mr, so, he, sl, sg, ss, wL, wN, wC, wF, fL, fE, fR, rN, rV)) : ∀ k i : Nat, i + k = 4 → wX_addTie_29 post (nI n) a b lc nc mf wl fr (k + 1) (nI i) tg ld (zg_m gp n a b i) hf sn fn ma mr so he sl sg ss wL wN wC wF fL fE fR rN rV := by
  intro k
  induction k with
  | zero =>
    intro i hi
    obtain rfl : i = 4 := by omega
    exact br_t (za_ge 4 (by omega) (by omega)) hp
  | succ k ih =>
    intro i hi
    have hv : vp_in (8 * nI i + nI n) 32 := za_i8 (by omega) hn
    have hc : (8 * nI i + nI n).toNatClampNeg = 8 * i + n := za_c8 (by omega)
    refine br_f (za_nge 4 (by omega)) ⟨hv, ?_⟩
    rcases zg_ms (gp := gp) (n := n) (k := i) (a := a) (b := b) hn with ⟨h, e⟩ | ⟨h, e⟩
    · refine br_t (by rw [hc]; exact h) ⟨hv, nm_r (e' := zg_m gp n a b (i + 1)) (by rw [hc]; exact e) (nm_r (nI_1 i) ?_)⟩
      exact ih (i + 1) (by omega)
    · refine br_f (by rw [hc]; exact h) (nm_r (nI_1 i) ?_)
      rw [e]
      exact ih (i + 1) (by omega)
theorem zg_xadd {post : SX → Prop} {n x y : Nat} {v1 v2 : Int32} (hn : n < 8) (hx : x < 4) (hy : y < 4) (e1 : v1 = nI x) (e2 : v2 = nI y) (hp : post (lc, nc, mf, wl, fr, tg, ld, zg_m gp n (gp (8 * x + n)) (gp (8 * y + n)) 4, hf, sn, fn, ma, mr, so, he, sl, sg, ss, wL, wN, wC, wF, fL, fE, fR, rN, rV)) : wpX_addTie post (lc, nc, mf, wl, fr, tg, ld, gp, hf, sn, fn, ma, mr, so, he, sl, sg, ss, wL, wN, wC, wF, fL, fE, fR, rN, rV) (nI n) v1 v2 := by
  subst e1 e2
  refine ⟨za_i8 hx hn, nm_r (e' := gp (8 * x + n)) (by rw [za_c8 (by omega)]) ⟨za_i8 hy hn, nm_r (e' := gp (8 * y + n)) (by rw [za_c8 (by omega)]) ⟨5, ?_⟩⟩⟩
  have := zg_x29 (post := post) (a := gp (8 * x + n)) (b := gp (8 * y + n)) hn hp 4 0 rfl
  rw [zg_m0] at this
  exact this
end ZGX
section ZGY
variable {lc nc mf fr : Int32} {tg ld so he sn fn hf ma mr fa fL fE fR rN rV wx wm wy wk ol os oF : Nat → Int32}
theorem zg_yadd {post : SY → Prop} {n x y : Nat} {v1 v2 : Int32} (hn : n < 8) (hx : x < 4) (hy : y < 4) (e1 : v1 = nI x) (e2 : v2 = nI y) (hp : post (lc, nc, mf, fr, tg, ld, so, he, sn, fn, hf, ma, mr, upd fa (16 * n + (4 * x + y)) 1, fL, fE, fR, rN, rV, wx, wm, wy, wk, ol, os, oF)) : wpY_addTie post (lc, nc, mf, fr, tg, ld, so, he, sn, fn, hf, ma, mr, fa, fL, fE, fR, rN, rV, wx, wm, wy, wk, ol, os, oF) (nI n) v1 v2 := by
  subst e1 e2
  refine ⟨pk_in (16 * n + (4 * x + y)) 128 (by omega) (za_16 n x y), nm_r (e' := upd fa (16 * n + (4 * x + y)) 1) ?_ hp⟩
  rw [za_16, nI_clamp (by omega), za_b1]
end ZGY
/-! the reference's search: bits of a number below 16 -/
def zt_b (p : Nat) : Int32 := ((1 : Int32) <<< ((nI p / 4) &&& 31)) ||| ((1 : Int32) <<< ((nI p - nI p / 4 * 4) &&& 31))
def zt_o (R p : Nat) : Nat := R ||| (2 ^ (p / 4) ||| 2 ^ (p % 4))
theorem zt_and : ∀ R, R < 16 → ∀ p, p < 16 → ((nI R &&& zt_b p) = 0 ↔ (R.testBit (p / 4) = false ∧ R.testBit (p % 4) = false)) := by decide +kernel
theorem zt_or : ∀ R, R < 16 → ∀ p, p < 16 → (nI R ||| zt_b p) = nI (zt_o R p) ∧ zt_o R p < 16 := by decide +kernel
theorem zt_ob : ∀ R, R < 16 → ∀ p, p < 16 → ∀ b, b < 4 → ((zt_o R p).testBit b = true ↔ (R.testBit b = true ∨ b = p / 4 ∨ b = p % 4)) := by decide +kernel
theorem zt_bit : ∀ R, R < 16 → ∀ m, m < 4 → (((nI R >>> (nI m &&& 31)) &&& 1) = 1 ↔ R.testBit m = true) := by decide +kernel
theorem zt_one : ∀ l, l < 4 → (1 : Int32) <<< (nI l &&& 31) = nI (2 ^ l) := by decide +kernel
theorem zt_oneb : ∀ l, l < 4 → 2 ^ l < 16 ∧ ∀ b, b < 4 → ((2 ^ l).testBit b = true ↔ b = l) := by decide +kernel
theorem zt_ext : ∀ R, R < 16 → ∀ R', R' < 16 → (∀ b, b < 4 → R.testBit b = R'.testBit b) → R = R' := by decide +kernel
def zt_pc (R : Nat) : Nat := (R.testBit 0).toNat + (R.testBit 1).toNat + (R.testBit 2).toNat + (R.testBit 3).toNat
theorem zt_pc4 : ∀ R, R < 16 → zt_pc R ≤ 4 := by decide +kernel
theorem zt_pc1 : ∀ l, l < 4 → 1 ≤ zt_pc (2 ^ l) := by decide +kernel
theorem zt_pcl : ∀ R, R < 16 → ∀ R', R' < 16 → (∀ b, b < 4 → R.testBit b = true → R'.testBit b = true) → R ≠ R' → zt_pc R < zt_pc R' := by decide +kernel
def zt_S (R : Nat) : Nat → Prop := fun b => R.testBit b = true
def zt_Q (fa : Nat → Int32) (n R R' p : Nat) : Prop :=
  R' < 16 ∧ (∀ b, b < 4 → R.testBit b = true → R'.testBit b = true) ∧
  (∀ S : Nat → Prop, zg_c fa n S → (∀ b, b < 4 → R.testBit b = true → S b) → ∀ b, b < 4 → R'.testBit b = true → S b) ∧
  (R' = R → ∀ q, p ≤ q → q < 16 → ¬ fa (16 * n + q) = 0 → R.testBit (q / 4) = R.testBit (q % 4))
theorem zt_Q0 {fa : Nat → Int32} {n R p : Nat} (hR : R < 16) (hp : 16 ≤ p) : zt_Q fa n R R p :=
  ⟨hR, fun _ _ h => h, fun _ _ h => h, fun _ q h1 h2 => by omega⟩
theorem zt_Q1 {fa : Nat → Int32} {n R R' p : Nat} (h : zt_Q fa n R R' (p + 1)) (hp : fa (16 * n + p) = 0 ∨ (R.testBit (p / 4) = false ∧ R.testBit (p % 4) = false)) : zt_Q fa n R R' p := by
  obtain ⟨h1, h2, h3, h4⟩ := h
  refine ⟨h1, h2, h3, fun e q hq1 hq2 hf => ?_⟩
  by_cases hq : q = p
  · subst hq
    rcases hp with hp | hp
    · exact absurd hp hf
    · rw [hp.1, hp.2]
  · exact h4 e q (by omega) hq2 hf
theorem zt_Q2 {fa : Nat → Int32} {n R R' p : Nat} (hR : R < 16) (hp : p < 16) (h : zt_Q fa n (zt_o R p) R' (p + 1)) (hf : ¬ fa (16 * n + p) = 0) (hb : ¬ (R.testBit (p / 4) = false ∧ R.testBit (p % 4) = false)) : zt_Q fa n R R' p := by
  obtain ⟨h1, h2, h3, h4⟩ := h
  have ho := zt_ob R hR p hp
  have hlt := (zt_or R hR p hp).2
  refine ⟨h1, fun b hb4 hRb => h2 b hb4 ((ho b hb4).mpr (Or.inl hRb)), fun S hS hRS b hb4 => h3 S hS (fun b hb4 hob => ?_) b hb4, fun e q hq1 hq2 hfq => ?_⟩
  · have hc := hS (p / 4) (by omega) (p % 4) (by omega) (by
      have : 4 * (p / 4) + p % 4 = p := by omega
      rw [this]; exact hf)
    have hin : S (p / 4) := by
      by_cases b1 : R.testBit (p / 4) = true
      · exact hRS _ (by omega) b1
      · by_cases b2 : R.testBit (p % 4) = true
        · exact hc.mpr (hRS _ (by omega) b2)
        · exact absurd ⟨Bool.not_eq_true _ ▸ b1, Bool.not_eq_true _ ▸ b2⟩ hb
    rcases (ho b hb4).mp hob with a | a | a
    · exact hRS b hb4 a
    · rw [a]; exact hin
    · rw [a]; exact hc.mp hin
  · have e1 : zt_o R p = R := by
      refine zt_ext _ hlt _ hR (fun b hb4 => ?_)
      have a1 : R.testBit b = true → (zt_o R p).testBit b = true := fun z => (ho b hb4).mpr (Or.inl z)
      have a2 : (zt_o R p).testBit b = true → R.testBit b = true := fun z => by
        have := h2 b hb4 z
        rw [e] at this
        exact this
      cases hA : (zt_o R p).testBit b
      · cases hB : R.testBit b
        · rfl
        · rw [a1 hB] at hA; exact absurd hA (by decide)
      · rw [a2 hA]
    by_cases hq : q = p
    · subst hq
      have b1 : R.testBit (q / 4) = true := by rw [← e1]; exact (ho _ (by omega)).mpr (Or.inr (Or.inl rfl))
      have b2 : R.testBit (q % 4) = true := by rw [← e1]; exact (ho _ (by omega)).mpr (Or.inr (Or.inr rfl))
      rw [b1, b2]
    · rw [e1] at h4
      exact h4 e q (by omega) hq2 hfq
theorem zt_cl {fa : Nat → Int32} {n R R' : Nat} (h : zt_Q fa n R R' 0) (e : R' = R) : zg_c fa n (zt_S R) := by
  intro x hx y hy hf
  have := h.2.2.2 e (4 * x + y) (by omega) (by omega) hf
  rw [show (4 * x + y) / 4 = x from by omega, show (4 * x + y) % 4 = y from by omega] at this
  show R.testBit x = true ↔ R.testBit y = true
  rw [this]
theorem zt_cq {fa : Nat → Int32} {n R R' : Nat} (hR : R < 16) (h : zt_Q fa n R R' 0) (c : zg_c fa n (zt_S R)) : R' = R := by
  obtain ⟨h1, h2, h3, h4⟩ := h
  refine zt_ext _ h1 _ hR (fun b hb => ?_)
  have a1 := h2 b hb
  have a2 : R'.testBit b = true → R.testBit b = true := h3 (zt_S R) c (fun _ _ z => z) b hb
  cases hA : R'.testBit b
  · cases hB : R.testBit b
    · rfl
    · rw [a1 hB] at hA; exact absurd hA (by decide)
  · rw [a2 hA]
theorem zt_gr {fa : Nat → Int32} {n R R' : Nat} (hR : R < 16) (h : zt_Q fa n R R' 0) : (zg_c fa n (zt_S R) ∧ R' = R) ∨ zt_pc R < zt_pc R' := by
  by_cases e : R' = R
  · exact Or.inl ⟨zt_cl h e, e⟩
  · exact Or.inr (zt_pcl R hR R' h.1 h.2.1 (fun z => e z.symm))
theorem zt_four {gp fa : Nat → Int32} {n l R1 R2 R3 R4 : Nat} (hG : zg_G gp fa) (hn : n < 8) (hl : l < 4) (q1 : zt_Q fa n (2 ^ l) R1 0) (q2 : zt_Q fa n R1 R2 0) (q3 : zt_Q fa n R2 R3 0) (q4 : zt_Q fa n R3 R4 0) :
    ∀ m, m < 4 → (R4.testBit m = true ↔ gp (8 * l + n) = gp (8 * m + n)) := by
  have h0 := (zt_oneb l hl).1
  have hc : zg_c fa n (zt_S R4) := by
    rcases zt_gr h0 q1 with ⟨c, e⟩ | g1
    · subst e
      have e2 := zt_cq h0 q2 c
      subst e2
      have e3 := zt_cq h0 q3 c
      subst e3
      have e4 := zt_cq h0 q4 c
      subst e4
      exact c
    · rcases zt_gr q1.1 q2 with ⟨c, e⟩ | g2
      · subst e
        have e3 := zt_cq q1.1 q3 c
        subst e3
        have e4 := zt_cq q1.1 q4 c
        subst e4
        exact c
      · rcases zt_gr q2.1 q3 with ⟨c, e⟩ | g3
        · subst e
          have e4 := zt_cq q2.1 q4 c
          subst e4
          exact c
        · rcases zt_gr q3.1 q4 with ⟨c, e⟩ | g4
          · subst e
            exact c
          · have a := zt_pc4 R4 q4.1
            have b := zt_pc1 l hl
            omega
  have hin : R4.testBit l = true := q4.2.1 l hl (q3.2.1 l hl (q2.2.1 l hl (q1.2.1 l hl (((zt_oneb l hl).2 l hl).mpr rfl))))
  intro m hm
  constructor
  · intro hb
    have hS : zg_c fa n (fun b => gp (8 * l + n) = gp (8 * b + n)) := by
      intro x hx y hy hf
      have := hG.1 n hn x hx y hy hf
      show gp (8 * l + n) = gp (8 * x + n) ↔ gp (8 * l + n) = gp (8 * y + n)
      rw [this]
    have s0 : ∀ b, b < 4 → (2 ^ l).testBit b = true → gp (8 * l + n) = gp (8 * b + n) := by
      intro b hb4 hb2
      rw [((zt_oneb l hl).2 b hb4).mp hb2]
    exact q4.2.2.1 _ hS (q3.2.2.1 _ hS (q2.2.2.1 _ hS (q1.2.2.1 _ hS s0))) m hm hb
  · intro hg
    exact (hG.2.1 n hn (zt_S R4) hc l hl m hm hg).mp hin
section ZTY
variable {lc nc mf fr : Int32} {tg ld so he sn fn hf ma mr fa fL fE fR rN rV wx wm wy wk ol os oF : Nat → Int32}
variable {gp : Nat → Int32}
theorem zt_y43 {n : Nat} (hn : n < 8) : ∀ k p R : Nat, p + k = 16 → R < 16 → ∃ R', zt_Q fa n R R' p ∧ ∀ (post : Int32 → Prop) (J : Int32 → Int32 → Prop) (x3 x5 : Int32), J (nI R') (x5 + 1) → wY_tied_43 post J (nI n) x3 x5 lc nc mf fr tg ld so he sn fn hf ma mr fa fL fE fR rN rV wx wm wy wk ol os oF (k + 1) (nI R) (nI p) := by
  intro k
  induction k with
  | zero =>
    intro p R hp hR
    obtain rfl : p = 16 := by omega
    exact ⟨R, zt_Q0 hR (by omega), fun post J x3 x5 h => br_t (za_ge 16 (by omega) (by omega)) (nm_e h)⟩
  | succ k ih =>
    intro p R hp hR
    have hp16 : p < 16 := by omega
    have hv : vp_in (nI n * 16 + nI p) 128 := pk_in (16 * n + p) 128 (by omega) (za_16p n p)
    have hc : (nI n * 16 + nI p).toNatClampNeg = 16 * n + p := by rw [za_16p, nI_clamp (by omega)]
    have hlt : ¬ (16 : Int32) ≤ nI p := za_nge 16 (by omega)
    by_cases hf : fa (16 * n + p) = 0
    · obtain ⟨R', q, H⟩ := ih (p + 1) R (by omega) hR
      refine ⟨R', zt_Q1 q (Or.inl hf), fun post J x3 x5 h => ?_⟩
      exact br_f hlt ⟨za_n40, za_n40, nm_e ⟨hv, br_t (by rw [hc]; exact hf) (nm_r (nI_1 p) (H post J x3 x5 h))⟩⟩
    · by_cases hb : R.testBit (p / 4) = false ∧ R.testBit (p % 4) = false
      · obtain ⟨R', q, H⟩ := ih (p + 1) R (by omega) hR
        refine ⟨R', zt_Q1 q (Or.inr hb), fun post J x3 x5 h => ?_⟩
        exact br_f hlt ⟨za_n40, za_n40, nm_e ⟨hv, br_f (by rw [hc]; exact hf) (br_t ((zt_and R hR p hp16).mpr hb) (nm_r (nI_1 p) (H post J x3 x5 h)))⟩⟩
      · obtain ⟨R', q, H⟩ := ih (p + 1) (zt_o R p) (by omega) (zt_or R hR p hp16).2
        refine ⟨R', zt_Q2 hR hp16 q hf hb, fun post J x3 x5 h => ?_⟩
        exact br_f hlt ⟨za_n40, za_n40, nm_e ⟨hv, br_f (by rw [hc]; exact hf) (br_f (fun z => hb ((zt_and R hR p hp16).mp z)) (nm_r (zt_or R hR p hp16).1 (nm_r (nI_1 p) (H post J x3 x5 h))))⟩⟩
theorem zt_y34 {n l m : Nat} (hG : zg_G gp fa) (hn : n < 8) (hl : l < 4) (hm : m < 4) {post : Int32 → Prop} (h1 : gp (8 * l + n) = gp (8 * m + n) → post 1) (h0 : ¬ gp (8 * l + n) = gp (8 * m + n) → post 0) : ∃ f, wY_tied_34 post (nI n) (nI m) lc nc mf fr tg ld so he sn fn hf ma mr fa fL fE fR rN rV wx wm wy wk ol os oF f (nI (2 ^ l)) 0 := by
  obtain ⟨R1, q1, H1⟩ := zt_y43 (lc := lc) (nc := nc) (mf := mf) (fr := fr) (tg := tg) (ld := ld) (so := so) (he := he) (sn := sn) (fn := fn) (hf := hf) (ma := ma) (mr := mr) (fa := fa) (fL := fL) (fE := fE) (fR := fR) (rN := rN) (rV := rV) (wx := wx) (wm := wm) (wy := wy) (wk := wk) (ol := ol) (os := os) (oF := oF) hn 16 0 (2 ^ l) rfl (zt_oneb l hl).1
  obtain ⟨R2, q2, H2⟩ := zt_y43 (lc := lc) (nc := nc) (mf := mf) (fr := fr) (tg := tg) (ld := ld) (so := so) (he := he) (sn := sn) (fn := fn) (hf := hf) (ma := ma) (mr := mr) (fa := fa) (fL := fL) (fE := fE) (fR := fR) (rN := rN) (rV := rV) (wx := wx) (wm := wm) (wy := wy) (wk := wk) (ol := ol) (os := os) (oF := oF) hn 16 0 R1 rfl q1.1
  obtain ⟨R3, q3, H3⟩ := zt_y43 (lc := lc) (nc := nc) (mf := mf) (fr := fr) (tg := tg) (ld := ld) (so := so) (he := he) (sn := sn) (fn := fn) (hf := hf) (ma := ma) (mr := mr) (fa := fa) (fL := fL) (fE := fE) (fR := fR) (rN := rN) (rV := rV) (wx := wx) (wm := wm) (wy := wy) (wk := wk) (ol := ol) (os := os) (oF := oF) hn 16 0 R2 rfl q2.1
  obtain ⟨R4, q4, H4⟩ := zt_y43 (lc := lc) (nc := nc) (mf := mf) (fr := fr) (tg := tg) (ld := ld) (so := so) (he := he) (sn := sn) (fn := fn) (hf := hf) (ma := ma) (mr := mr) (fa := fa) (fL := fL) (fE := fE) (fR := fR) (rN := rN) (rV := rV) (wx := wx) (wm := wm) (wy := wy) (wk := wk) (ol := ol) (os := os) (oF := oF) hn 16 0 R3 rfl q3.1
  have hb := zt_four hG hn hl q1 q2 q3 q4 m hm
  have ht := zt_bit R4 q4.1 m hm
  refine ⟨5, br_f (by decide) ⟨17, H1 _ _ _ _ ?_⟩⟩
  refine br_f (by decide) ⟨17, H2 _ _ _ _ ?_⟩
  refine br_f (by decide) ⟨17, H3 _ _ _ _ ?_⟩
  refine br_f (by decide) ⟨17, H4 _ _ _ _ ?_⟩
  refine br_t (by decide) ?_
  by_cases g : gp (8 * l + n) = gp (8 * m + n)
  · exact br_t (ht.mpr (hb.mpr g)) (h1 g)
  · exact br_f (fun z => g (hb.mp (ht.mp z))) (h0 g)
theorem zt_tied {L N n l m : Nat} {v1 v2 : Int32} (hG : zg_G gp fa) (hL : L ≤ 4) (hN : N ≤ 8) (hn : n < N) (hl : l < L) (hm : m < L) (e1 : v1 = nI l) (e2 : v2 = nI m) {post : Int32 → Prop} (h1 : gp (8 * l + n) = gp (8 * m + n) → post 1) (h0 : ¬ gp (8 * l + n) = gp (8 * m + n) → post 0) : wpY_tied post (nI L, nI N, mf, fr, tg, ld, so, he, sn, fn, hf, ma, mr, fa, fL, fE, fR, rN, rV, wx, wm, wy, wk, ol, os, oF) (nI n) v1 v2 := by
  subst e1 e2
  unfold wpY_tied
  refine zb_yN1 hn hN (br_f za_n10 ?_)
  refine zb_yL1 hl (by omega) (br_f za_n10 ?_)
  refine zb_yL1 hm (by omega) (br_f za_n10 ?_)
  refine nm_r (zt_one l (by omega)) ?_
  exact zt_y34 hG (by omega) (by omega) (by omega) h1 h0
end ZTY
end
section
/-! what a pair denotes; clashes -/
def zd_d (gp ld : Nat → Int32) (n : Nat) (lab : Int32) : Nat → Nat → Int32
  | 0, _ => -1
  | k + 1, x => if gp (8 * x + n) = lab ∧ ¬ ld (8 * x + n) = -1 then ld (8 * x + n) else zd_d gp ld n lab k (x + 1)
theorem zd_s {gp ld : Nat → Int32} {n k x : Nat} {lab : Int32} : zd_d gp ld n lab (k + 1) x = if gp (8 * x + n) = lab ∧ ¬ ld (8 * x + n) = -1 then ld (8 * x + n) else zd_d gp ld n lab k (x + 1) := rfl
theorem zd_none {gp ld : Nat → Int32} {n : Nat} {lab : Int32} : ∀ k x, (∀ u, x ≤ u → u < x + k → ld (8 * u + n) = -1) → zd_d gp ld n lab k x = -1 := by
  intro k
  induction k with
  | zero => intro x _; rfl
  | succ k ih =>
    intro x h
    rw [zd_s, if_neg (fun z => z.2 (h x (by omega) (by omega)))]
    exact ih (x + 1) (fun u h1 h2 => h u (by omega) (by omega))
theorem zd_v {gp ld : Nat → Int32} {n : Nat} {lab : Int32} : ∀ k x, zd_d gp ld n lab k x = -1 ∨ ∃ u, x ≤ u ∧ u < x + k ∧ gp (8 * u + n) = lab ∧ ¬ ld (8 * u + n) = -1 ∧ zd_d gp ld n lab k x = ld (8 * u + n) := by
  intro k
  induction k with
  | zero => intro x; exact Or.inl rfl
  | succ k ih =>
    intro x
    rw [zd_s]
    by_cases h : gp (8 * x + n) = lab ∧ ¬ ld (8 * x + n) = -1
    · rw [if_pos h]
      exact Or.inr ⟨x, by omega, by omega, h.1, h.2, rfl⟩
    · rw [if_neg h]
      rcases ih (x + 1) with e | ⟨u, h1, h2, h3⟩
      · exact Or.inl e
      · exact Or.inr ⟨u, by omega, by omega, h3⟩
theorem zd_some {gp ld : Nat → Int32} {n : Nat} {lab : Int32} : ∀ k x u, x ≤ u → u < x + k → gp (8 * u + n) = lab → ¬ ld (8 * u + n) = -1 → ¬ zd_d gp ld n lab k x = -1 := by
  intro k
  induction k with
  | zero => intro x u h1 h2; omega
  | succ k ih =>
    intro x u h1 h2 h3 h4
    rw [zd_s]
    by_cases h : gp (8 * x + n) = lab ∧ ¬ ld (8 * x + n) = -1
    · rw [if_pos h]; exact h.2
    · rw [if_neg h]
      have : u ≠ x := fun e => h (e ▸ ⟨h3, h4⟩)
      exact ih (x + 1) u (by omega) (by omega) h3 h4
def zd_ok (gp ld : Nat → Int32) (c : Nat) : Prop := ld c = -1 ∨ zd_d gp ld (c % 8) (gp c) 4 0 = ld c
/-- some cell clashes, as the component sees it -/
def zd_K (gp ld : Nat → Int32) : Prop := ∃ c, c < 32 ∧ ¬ zd_ok gp ld c
/-- a pair clashes, as the reference sees it -/
def zd_P (gp ld : Nat → Int32) (m p : Nat) : Prop := ¬ ld (8 * (p / 4) + m) = -1 ∧ ¬ ld (8 * (p % 4) + m) = -1 ∧ ¬ ld (8 * (p / 4) + m) = ld (8 * (p % 4) + m) ∧ gp (8 * (p / 4) + m) = gp (8 * (p % 4) + m)
theorem zd_eq {gp ld : Nat → Int32} : zd_K gp ld ↔ ∃ m, m < 8 ∧ ∃ p, p < 16 ∧ zd_P gp ld m p := by
  constructor
  · rintro ⟨c, hc, h⟩
    have h1 : ¬ ld c = -1 := fun e => h (Or.inl e)
    have h2 : ¬ zd_d gp ld (c % 8) (gp c) 4 0 = ld c := fun e => h (Or.inr e)
    have ec : 8 * (c / 8) + c % 8 = c := by omega
    rcases zd_v (gp := gp) (ld := ld) (n := c % 8) (lab := gp c) 4 0 with e | ⟨u, u1, u2, u3, u4, u5⟩
    · exact absurd e (zd_some 4 0 (c / 8) (by omega) (by omega) (by rw [ec]) (by rw [ec]; exact h1))
    · refine ⟨c % 8, by omega, 4 * (c / 8) + u, by omega, ?_⟩
      unfold zd_P
      rw [show (4 * (c / 8) + u) / 4 = c / 8 from by omega, show (4 * (c / 8) + u) % 4 = u from by omega, ec]
      exact ⟨h1, u4, fun e => h2 (u5.trans e.symm), u3.symm⟩
  · rintro ⟨m, hm, p, hp, h1, h2, h3, h4⟩
    by_cases e : zd_d gp ld m (gp (8 * (p / 4) + m)) 4 0 = ld (8 * (p / 4) + m)
    · refine ⟨8 * (p % 4) + m, by omega, ?_⟩
      rintro (z | z)
      · exact h2 z
      · rw [show (8 * (p % 4) + m) % 8 = m from by omega, ← h4, e] at z
        exact h3 z
    · refine ⟨8 * (p / 4) + m, by omega, ?_⟩
      rintro (z | z)
      · exact h1 z
      · rw [show (8 * (p / 4) + m) % 8 = m from by omega] at z
        exact e z
section ZDX
variable {lc nc mf wl fr : Int32} {tg ld gp hf sn fn ma mr so he sl sg ss wL wN wC wF fL fE fR rN rV : Nat → Int32}
variable {post : Int32 → Prop}
theorem zd_x15 {n : Nat} {lab : Int32} (hn : n < 8) : ∀ k x : Nat, x + k = 4 → post (zd_d gp ld n lab k x) → wX_denoted_15 post (nI n) lab lc nc mf wl fr tg ld gp hf sn fn ma mr so he sl sg ss wL wN wC wF fL fE fR rN rV (k + 1) (nI x) := by
  intro k
  induction k with
  | zero =>
    intro x hx hp
    obtain rfl : x = 4 := by omega
    exact br_t (za_ge 4 (by omega) (by omega)) hp
  | succ k ih =>
    intro x hx hp
    have hv : vp_in (8 * nI x + nI n) 32 := za_i8 (by omega) hn
    have hc : (8 * nI x + nI n).toNatClampNeg = 8 * x + n := za_c8 (by omega)
    rw [zd_s] at hp
    refine br_f (za_nge 4 (by omega)) ⟨hv, ?_⟩
    by_cases h1 : gp (8 * x + n) = lab
    · refine br_t (by rw [hc]; exact h1) ⟨hv, ?_⟩
      by_cases h2 : ld (8 * x + n) = -1
      · rw [if_neg (fun z => z.2 h2)] at hp
        exact br_t (by rw [hc]; exact h2) (nm_r (nI_1 x) (ih (x + 1) (by omega) hp))
      · rw [if_pos ⟨h1, h2⟩] at hp
        exact br_f (by rw [hc]; exact h2) ⟨hv, by rw [hc]; exact hp⟩
    · rw [if_neg (fun z => h1 z.1)] at hp
      exact br_f (by rw [hc]; exact h1) (nm_r (nI_1 x) (ih (x + 1) (by omega) hp))
theorem zd_xden {n l : Nat} {v1 v2 : Int32} (hn : n < 8) (hl : l < 4) (e1 : v1 = nI l) (e2 : v2 = nI n) (hp : post (zd_d gp ld n (gp (8 * l + n)) 4 0)) : wpX_denoted post (lc, nc, mf, wl, fr, tg, ld, gp, hf, sn, fn, ma, mr, so, he, sl, sg, ss, wL, wN, wC, wF, fL, fE, fR, rN, rV) v1 v2 := by
  subst e1 e2
  refine ⟨za_i8 hl hn, nm_r (e' := gp (8 * l + n)) (by rw [za_c8 (by omega)]) ⟨5, ?_⟩⟩
  exact zd_x15 hn 4 0 rfl hp
theorem zd_x2 (h1 : zd_K gp ld → post 1) (h0 : ¬ zd_K gp ld → post 0) : ∀ k i : Nat, i + k = 32 → (∀ c, c < i → zd_ok gp ld c) → wX_clashes_2 post lc nc mf wl fr tg ld gp hf sn fn ma mr so he sl sg ss wL wN wC wF fL fE fR rN rV (k + 1) (nI i) := by
  intro k
  induction k with
  | zero =>
    intro i hi h
    obtain rfl : i = 32 := by omega
    exact br_t (za_ge 32 (by omega) (by omega)) (h0 (fun ⟨c, hc, z⟩ => z (h c hc)))
  | succ k ih =>
    intro i hi h
    have hv : vp_in (nI i) 32 := vp_in_nI (by omega) (by omega)
    have hc : (nI i).toNatClampNeg = i := nI_clamp (by omega)
    refine br_f (za_nge 32 (by omega)) ⟨hv, ?_⟩
    by_cases e : ld i = -1
    · exact br_t (by rw [hc]; exact e) (nm_r (nI_1 i) (ih (i + 1) (by omega) (lt_s h (Or.inl e))))
    · refine br_f (by rw [hc]; exact e) ⟨za_n80, za_n80, ?_⟩
      refine zd_xden (n := i % 8) (l := i / 8) (by omega) (by omega) (za_d8 (by omega)) (za_r8 (by omega)) ?_
      rw [show 8 * (i / 8) + i % 8 = i from by omega]
      refine ⟨hv, ?_⟩
      rw [hc]
      by_cases z : zd_d gp ld (i % 8) (gp i) 4 0 = ld i
      · exact br_t z (nm_r (nI_1 i) (ih (i + 1) (by omega) (lt_s h (Or.inr z))))
      · refine br_f z (h1 ⟨i, by omega, ?_⟩)
        rintro (w | w)
        · exact e w
        · exact z w
theorem zd_xcl (h1 : zd_K gp ld → post 1) (h0 : ¬ zd_K gp ld → post 0) : wpX_clashes post (lc, nc, mf, wl, fr, tg, ld, gp, hf, sn, fn, ma, mr, so, he, sl, sg, ss, wL, wN, wC, wF, fL, fE, fR, rN, rV) := ⟨33, zd_x2 h1 h0 32 0 rfl (fun c hc => by omega)⟩
end ZDX
section ZDY
variable {lc nc mf fr : Int32} {tg ld so he sn fn hf ma mr fa fL fE fR rN rV wx wm wy wk ol os oF : Nat → Int32}
variable {gp : Nat → Int32} {post : Int32 → Prop}
/-- only cells of the present loaders and names hold a class -/
def zd_in (L N : Nat) (ld : Nat → Int32) : Prop := ∀ l, l < 4 → ∀ n, n < 8 → ¬ ld (8 * l + n) = -1 → l < L ∧ n < N
theorem zd_y21 {L N n l : Nat} (hG : zg_G gp fa) (hI : zd_in L N ld) (hL : L ≤ 4) (hN : N ≤ 8) (hn : n < N) (hl : l < L) : ∀ k x : Nat, x + k = L → post (zd_d gp ld n (gp (8 * l + n)) (4 - x) x) → wY_denotes_21 post (nI l) (nI n) (nI L) (nI N) mf fr tg ld so he sn fn hf ma mr fa fL fE fR rN rV wx wm wy wk ol os oF (k + 1) (nI x) := by
  intro k
  induction k with
  | zero =>
    intro x hx hp
    obtain rfl : x = L := by omega
    rw [zd_none (4 - x) x (fun u h1 h2 => by
      by_cases e : ld (8 * u + n) = -1
      · exact e
      · have := (hI u (by omega) n (by omega) e).1
        omega)] at hp
    exact br_t (nI_le (by omega) (by omega)) hp
  | succ k ih =>
    intro x hx hp
    have hv : vp_in (nI x * 8 + nI n) 32 := za_i8y (by omega) (by omega)
    have hc : (nI x * 8 + nI n).toNatClampNeg = 8 * x + n := za_c8y (by omega)
    rw [show 4 - x = (4 - (x + 1)) + 1 from by omega, zd_s] at hp
    refine br_f (nI_ge (by omega) (by omega)) ⟨hv, ?_⟩
    by_cases h2 : ld (8 * x + n) = -1
    · rw [if_neg (fun z => z.2 h2)] at hp
      exact br_t (by rw [hc]; exact h2) (nm_r (nI_1 x) (ih (x + 1) (by omega) hp))
    · refine br_f (by rw [hc]; exact h2) ?_
      refine zt_tied hG hL hN hn hl (show x < L by omega) rfl rfl ?_ ?_
      · intro g
        rw [if_pos ⟨g.symm, h2⟩] at hp
        exact br_f za_n10 ⟨hv, by rw [hc]; exact hp⟩
      · intro g
        rw [if_neg (fun z => g z.1.symm)] at hp
        exact br_t rfl (nm_r (nI_1 x) (ih (x + 1) (by omega) hp))
theorem zd_yden {L N n l : Nat} {v1 v2 : Int32} (hG : zg_G gp fa) (hI : zd_in L N ld) (hL : L ≤ 4) (hN : N ≤ 8) (hn : n < N) (hl : l < L) (e1 : v1 = nI l) (e2 : v2 = nI n) (hp : post (zd_d gp ld n (gp (8 * l + n)) 4 0)) : wpY_denotes post (nI L, nI N, mf, fr, tg, ld, so, he, sn, fn, hf, ma, mr, fa, fL, fE, fR, rN, rV, wx, wm, wy, wk, ol, os, oF) v1 v2 := by
  subst e1 e2
  unfold wpY_denotes
  refine zb_yL1 hl (by omega) (br_f za_n10 ?_)
  refine zb_yN1 hn hN (br_f za_n10 ⟨L + 1, ?_⟩)
  exact zd_y21 hG hI hL hN hn hl L 0 (by omega) hp
theorem zd_y10 {L N m : Nat} {J : Int32 → Prop} (hG : zg_G gp fa) (hI : zd_in L N ld) (hL : L ≤ 4) (hN : N ≤ 8) (hm : m < 8) (h1 : zd_K gp ld → post 1) (hJ : (∀ p, p < 16 → ¬ zd_P gp ld m p) → J (nI (m + 1))) : ∀ k p : Nat, p + k = 16 → (∀ q, q < p → ¬ zd_P gp ld m q) → wY_clash_10 post J (nI m) (nI L) (nI N) mf fr tg ld so he sn fn hf ma mr fa fL fE fR rN rV wx wm wy wk ol os oF (k + 1) (nI p) := by
  intro k
  induction k with
  | zero =>
    intro p hp h
    obtain rfl : p = 16 := by omega
    exact br_t (za_ge 16 (by omega) (by omega)) (nm_r (nI_1 m) (hJ h))
  | succ k ih =>
    intro p hp h
    have e1 : (nI p / 4) * 8 + nI m = nI (8 * (p / 4) + m) := by rw [za_d4 (by omega), za_8y]
    have e2 : (nI p - nI p / 4 * 4) * 8 + nI m = nI (8 * (p % 4) + m) := by rw [za_r4 (by omega), za_8y]
    have c1 : ((nI p / 4) * 8 + nI m).toNatClampNeg = 8 * (p / 4) + m := by rw [e1, nI_clamp (by omega)]
    have c2 : ((nI p - nI p / 4 * 4) * 8 + nI m).toNatClampNeg = 8 * (p % 4) + m := by rw [e2, nI_clamp (by omega)]
    refine br_f (za_nge 16 (by omega)) ⟨za_n40, pk_in (8 * (p / 4) + m) 32 (by omega) e1, nm_r (e' := ld (8 * (p / 4) + m)) (by rw [c1]) ⟨za_n40, pk_in (8 * (p % 4) + m) 32 (by omega) e2, nm_r (e' := ld (8 * (p % 4) + m)) (by rw [c2]) ?_⟩⟩
    have go : ¬ zd_P gp ld m p → ∀ y : Int32, y = nI p + 1 → wY_clash_10 post J (nI m) (nI L) (nI N) mf fr tg ld so he sn fn hf ma mr fa fL fE fR rN rV wx wm wy wk ol os oF (k + 1) y := fun z => nm_r (nI_1 p) (ih (p + 1) (by omega) (lt_s h z))
    by_cases a1 : ld (8 * (p / 4) + m) = -1
    · exact br_t a1 (go (fun z => z.1 a1))
    · refine br_f a1 ?_
      by_cases a2 : ld (8 * (p % 4) + m) = -1
      · exact br_t a2 (go (fun z => z.2.1 a2))
      · refine br_f a2 ?_
        by_cases a3 : ld (8 * (p / 4) + m) = ld (8 * (p % 4) + m)
        · exact br_t a3 (go (fun z => z.2.2.1 a3))
        · refine br_f a3 ⟨za_n40, za_n40, ?_⟩
          have i1 := hI (p / 4) (by omega) m hm a1
          have i2 := hI (p % 4) (by omega) m hm a2
          refine zt_tied hG hL hN i1.2 i1.1 i2.1 (za_d4 (by omega)) (za_r4 (by omega)) ?_ ?_
          · intro g
            exact br_f za_n10 (h1 (zd_eq.mpr ⟨m, hm, p, by omega, a1, a2, a3, g⟩))
          · intro g
            exact br_t rfl (go (fun z => g z.2.2.2))
theorem zd_y2 {L N : Nat} (hG : zg_G gp fa) (hI : zd_in L N ld) (hL : L ≤ 4) (hN : N ≤ 8) (h1 : zd_K gp ld → post 1) (h0 : ¬ zd_K gp ld → post 0) : ∀ k m : Nat, m + k = 8 → (∀ a, a < m → ∀ p, p < 16 → ¬ zd_P gp ld a p) → wY_clash_2 post (nI L) (nI N) mf fr tg ld so he sn fn hf ma mr fa fL fE fR rN rV wx wm wy wk ol os oF (k + 1) (nI m) := by
  intro k
  induction k with
  | zero =>
    intro m hm h
    obtain rfl : m = 8 := by omega
    refine br_t (za_ge 8 (by omega) (by omega)) (h0 (fun z => ?_))
    obtain ⟨a, ha, p, hp, z⟩ := zd_eq.mp z
    exact h a ha p hp z
  | succ k ih =>
    intro m hm h
    refine br_f (za_nge 8 (by omega)) ⟨17, ?_⟩
    exact zd_y10 hG hI hL hN (by omega) h1 (fun z => ih (m + 1) (by omega) (lt_s h z)) 16 0 rfl (fun q hq => by omega)
theorem zd_ycl {L N : Nat} (hG : zg_G gp fa) (hI : zd_in L N ld) (hL : L ≤ 4) (hN : N ≤ 8) (h1 : zd_K gp ld → post 1) (h0 : ¬ zd_K gp ld → post 0) : wpY_clash post (nI L, nI N, mf, fr, tg, ld, so, he, sn, fn, hf, ma, mr, fa, fL, fE, fR, rN, rV, wx, wm, wy, wk, ol, os, oF) := ⟨9, zd_y2 hG hI hL hN h1 h0 8 0 rfl (fun a ha => by omega)⟩
end ZDY
end
section
/-! chains of superclasses -/
/-- from p on there are n classes, then NONE -/
def ze_U (L N : Nat) (so : Nat → Int32) : Nat → Int32 → Prop
  | 0, p => p = -1
  | n + 1, p => ∃ c, c < 32 ∧ c / 8 < L ∧ c % 8 < N ∧ p = nI c ∧ ze_U L N so n (so c)
theorem ze_det {L N : Nat} {so : Nat → Int32} : ∀ (n m : Nat) (p : Int32), ze_U L N so n p → ze_U L N so m p → n = m := by
  intro n
  induction n with
  | zero =>
    intro m p h h'
    cases m with
    | zero => rfl
    | succ m =>
      obtain ⟨c, hc, _, _, e, _⟩ := h'
      rw [show p = -1 from h] at e
      exact absurd e (za_n1' (by omega))
  | succ n ih =>
    intro m p h h'
    obtain ⟨c, hc, _, _, e, hr⟩ := h
    cases m with
    | zero =>
      rw [show p = -1 from h'] at e
      exact absurd e (za_n1' (by omega))
    | succ m =>
      obtain ⟨c', hc', _, _, e', hr'⟩ := h'
      have : c = c' := za_im (e.symm.trans e') (by omega) (by omega)
      subst this
      rw [ih m _ hr hr']
theorem ze_seq {L N : Nat} {so : Nat → Int32} : ∀ (n : Nat) (p : Int32), ze_U L N so n p → ∃ f : Nat → Nat, ∀ i, i < n → f i < 32 ∧ ze_U L N so (n - i) (nI (f i)) := by
  intro n
  induction n with
  | zero => intro p _; exact ⟨fun _ => 0, fun i hi => by omega⟩
  | succ n ih =>
    intro p h
    have h0 := h
    obtain ⟨c, hc, _, _, e, hr⟩ := h
    obtain ⟨f, hf⟩ := ih _ hr
    refine ⟨fun i => if i = 0 then c else f (i - 1), fun i hi => ?_⟩
    by_cases hi0 : i = 0
    · subst hi0
      show (if 0 = 0 then c else f (0 - 1)) < 32 ∧ ze_U L N so (n + 1 - 0) (nI (if 0 = 0 then c else f (0 - 1)))
      rw [if_pos rfl, ← e]
      exact ⟨hc, h0⟩
    · show (if i = 0 then c else f (i - 1)) < 32 ∧ ze_U L N so (n + 1 - i) (nI (if i = 0 then c else f (i - 1)))
      rw [if_neg hi0, show n + 1 - i = n - (i - 1) from by omega]
      exact hf (i - 1) (by omega)
theorem ze_le {L N n : Nat} {so : Nat → Int32} {p : Int32} (h : ze_U L N so n p) : n ≤ 32 := by
  obtain ⟨f, hf⟩ := ze_seq n p h
  refine zu_pg 32 n f (fun i hi => (hf i hi).1) (fun i hi j hj e => ?_)
  have h1 := (hf i hi).2
  have h2 := (hf j (by omega)).2
  rw [e] at h2
  have := ze_det _ _ _ h1 h2
  omega
/-- methods: both names, or none -/
def ze_M (N : Nat) (ma mr : Nat → Int32) : Prop := ∀ i, i < 64 → (ma i = -1 ∧ mr i = -1) ∨ ((∃ a, a < N ∧ ma i = nI a) ∧ ∃ b, b < N ∧ mr i = nI b)
section ZE
variable {lc nc mf wl fr : Int32} {tg ld gp hf sn fn ma mr so he sl sg ss wL wN wC wF fL fE fR rN rV fa wx wm wy wk ol os oF : Nat → Int32}
variable {L N : Nat}
theorem ze_isA5 {k : Int32} (hk : ¬ k = -1) : ∀ (n i : Nat) (p : Int32), i + n ≤ 32 → ze_U L N so n p → ∃ r : Int32, (r = 0 ∨ r = 1) ∧ (∀ post : Int32 → Prop, post r → wX_isOrInherits_5 post k lc nc mf wl fr tg ld gp hf sn fn ma mr so he sl sg ss wL wN wC wF fL fE fR rN rV (n + 1) p (nI i)) ∧ (∀ post : Int32 → Prop, post r → wY_isA_5 post k lc nc mf fr tg ld so he sn fn hf ma mr fa fL fE fR rN rV wx wm wy wk ol os oF (n + 1) p (nI i)) := by
  intro n
  induction n with
  | zero =>
    intro i p hi h
    obtain rfl : p = -1 := h
    by_cases h32 : i = 32
    · subst h32
      have hb : (32 : Int32) ≤ nI 32 := za_ge 32 (by omega) (by omega)
      exact ⟨0, Or.inl rfl, fun post hp => br_t hb hp, fun post hp => br_t hb (br_f (fun e => hk e.symm) hp)⟩
    · have hb : ¬ (32 : Int32) ≤ nI i := za_nge 32 (by omega)
      exact ⟨0, Or.inl rfl, fun post hp => br_f hb (br_t rfl hp), fun post hp => br_f hb (br_t rfl (br_f (fun e => hk e.symm) hp))⟩
  | succ n ih =>
    intro i p hi h
    obtain ⟨c, hc, _, _, rfl, hr⟩ := h
    have hb : ¬ (32 : Int32) ≤ nI i := za_nge 32 (by omega)
    have hn : ¬ nI c = -1 := za_n1 (by omega)
    have hv : vp_in (nI c) 32 := vp_in_nI hc (by omega)
    have hcl : (nI c).toNatClampNeg = c := nI_clamp (by omega)
    by_cases e : nI c = k
    · exact ⟨1, Or.inr rfl, fun post hp => br_f hb (br_f hn (br_t e hp)), fun post hp => br_f hb (br_f hn (br_t e (br_t e hp)))⟩
    · obtain ⟨r, h01, HX, HY⟩ := ih (i + 1) _ (by omega) hr
      exact ⟨r, h01, fun post hp => br_f hb (br_f hn (br_f e ⟨hv, nm_r (e' := so c) (by rw [hcl]) (nm_r (nI_1 i) (HX post hp))⟩)),
        fun post hp => br_f hb (br_f hn (br_f e ⟨hv, nm_r (e' := so c) (by rw [hcl]) (nm_r (nI_1 i) (HY post hp))⟩))⟩
theorem ze_isA {k p : Int32} {n : Nat} (hk : ¬ k = -1) (h : ze_U L N so n p) : ∃ r : Int32, (r = 0 ∨ r = 1) ∧ (∀ post : Int32 → Prop, post r → wpX_isOrInherits post (lc, nc, mf, wl, fr, tg, ld, gp, hf, sn, fn, ma, mr, so, he, sl, sg, ss, wL, wN, wC, wF, fL, fE, fR, rN, rV) p k) ∧ (∀ post : Int32 → Prop, post r → wpY_isA post (lc, nc, mf, fr, tg, ld, so, he, sn, fn, hf, ma, mr, fa, fL, fE, fR, rN, rV, wx, wm, wy, wk, ol, os, oF) p k) := by
  have hn := ze_le h
  obtain ⟨r, h01, HX, HY⟩ := ze_isA5 (lc := lc) (nc := nc) (mf := mf) (wl := wl) (fr := fr) (tg := tg) (ld := ld) (gp := gp) (hf := hf) (sn := sn) (fn := fn) (ma := ma) (mr := mr) (so := so) (he := he) (sl := sl) (sg := sg) (ss := ss) (wL := wL) (wN := wN) (wC := wC) (wF := wF) (fL := fL) (fE := fE) (fR := fR) (rN := rN) (rV := rV) (fa := fa) (wx := wx) (wm := wm) (wy := wy) (wk := wk) (ol := ol) (os := os) (oF := oF) hk n 0 p (by omega) h
  exact ⟨r, h01, fun post hp => ⟨_, HX post hp⟩, fun post hp => ⟨_, HY post hp⟩⟩
theorem ze_fo4 : ∀ (n i : Nat) (p : Int32), i + n ≤ 32 → ze_U L N so n p → ∃ k : Int32, (k = -1 ∨ ∃ c, c < 32 ∧ c / 8 < L ∧ c % 8 < N ∧ k = nI c ∧ ¬ fn c = -1) ∧ (∀ post : Int32 → Prop, post k → wX_fieldOwner_4 post lc nc mf wl fr tg ld gp hf sn fn ma mr so he sl sg ss wL wN wC wF fL fE fR rN rV (n + 1) p (nI i)) ∧ (∀ (post : Int32 → SY → Prop) (x1 x3 x5 x6 : Int32), wY_access_96 post x1 x3 x5 x6 k lc nc mf fr tg ld so he sn fn hf ma mr fa fL fE fR rN rV wx wm wy wk ol os oF → wY_access_57 post x1 x3 x5 x6 lc nc mf fr tg ld so he sn fn hf ma mr fa fL fE fR rN rV wx wm wy wk ol os oF (n + 1) p (nI i)) := by
  intro n
  induction n with
  | zero =>
    intro i p hi h
    obtain rfl : p = -1 := h
    by_cases h32 : i = 32
    · subst h32
      have hb : (32 : Int32) ≤ nI 32 := za_ge 32 (by omega) (by omega)
      exact ⟨-1, Or.inl rfl, fun post hp => br_t hb hp, fun post x1 x3 x5 x6 hp => br_t hb hp⟩
    · have hb : ¬ (32 : Int32) ≤ nI i := za_nge 32 (by omega)
      exact ⟨-1, Or.inl rfl, fun post hp => br_f hb (br_t rfl hp), fun post x1 x3 x5 x6 hp => br_f hb (br_t rfl hp)⟩
  | succ n ih =>
    intro i p hi h
    obtain ⟨c, hc, h1, h2, rfl, hr⟩ := h
    have hb : ¬ (32 : Int32) ≤ nI i := za_nge 32 (by omega)
    have hn : ¬ nI c = -1 := za_n1 (by omega)
    have hv : vp_in (nI c) 32 := vp_in_nI hc (by omega)
    have hcl : (nI c).toNatClampNeg = c := nI_clamp (by omega)
    by_cases e : fn c = -1
    · obtain ⟨k, hk, HX, HY⟩ := ih (i + 1) _ (by omega) hr
      have e' : fn (nI c).toNatClampNeg = -1 := by rw [hcl]; exact e
      exact ⟨k, hk, fun post hp => br_f hb (br_f hn ⟨hv, br_t e' ⟨hv, nm_r (e' := so c) (by rw [hcl]) (nm_r (nI_1 i) (HX post hp))⟩⟩),
        fun post x1 x3 x5 x6 hp => br_f hb (br_f hn ⟨hv, br_t e' ⟨hv, nm_r (e' := so c) (by rw [hcl]) (nm_r (nI_1 i) (HY post x1 x3 x5 x6 hp))⟩⟩)⟩
    · have e' : ¬ fn (nI c).toNatClampNeg = -1 := by rw [hcl]; exact e
      exact ⟨nI c, Or.inr ⟨c, hc, h1, h2, rfl, e⟩, fun post hp => br_f hb (br_f hn ⟨hv, br_f e' hp⟩), fun post x1 x3 x5 x6 hp => br_f hb (br_f hn ⟨hv, br_f e' hp⟩)⟩
theorem ze_fo {p : Int32} {n : Nat} (h : ze_U L N so n p) : ∃ k : Int32, (k = -1 ∨ ∃ c, c < 32 ∧ c / 8 < L ∧ c % 8 < N ∧ k = nI c ∧ ¬ fn c = -1) ∧ (∀ post : Int32 → Prop, post k → wpX_fieldOwner post (lc, nc, mf, wl, fr, tg, ld, gp, hf, sn, fn, ma, mr, so, he, sl, sg, ss, wL, wN, wC, wF, fL, fE, fR, rN, rV) p) ∧ (∀ (post : Int32 → SY → Prop) (x1 x3 x5 x6 : Int32), wY_access_96 post x1 x3 x5 x6 k lc nc mf fr tg ld so he sn fn hf ma mr fa fL fE fR rN rV wx wm wy wk ol os oF → ∃ f, wY_access_57 post x1 x3 x5 x6 lc nc mf fr tg ld so he sn fn hf ma mr fa fL fE fR rN rV wx wm wy wk ol os oF f p 0) := by
  have hn := ze_le h
  obtain ⟨k, hk, HX, HY⟩ := ze_fo4 (lc := lc) (nc := nc) (mf := mf) (wl := wl) (fr := fr) (tg := tg) (ld := ld) (gp := gp) (hf := hf) (sn := sn) (fn := fn) (ma := ma) (mr := mr) (so := so) (he := he) (sl := sl) (sg := sg) (ss := ss) (wL := wL) (wN := wN) (wC := wC) (wF := wF) (fL := fL) (fE := fE) (fR := fR) (rN := rN) (rV := rV) (fa := fa) (wx := wx) (wm := wm) (wy := wy) (wk := wk) (ol := ol) (os := os) (oF := oF) n 0 p (by omega) h
  exact ⟨k, hk, fun post hp => ⟨_, HX post hp⟩, fun post x1 x3 x5 x6 hp => ⟨_, HY post x1 x3 x5 x6 hp⟩⟩
/-! methods -/
theorem ze_has0 {post : Int32 → Prop} {c s : Nat} (hc : c < 32) (hs : s < 2) (h0 : ma (2 * c + s) = -1 → post 0) (h1 : ¬ ma (2 * c + s) = -1 → post 1) : wpY_has post (lc, nc, mf, fr, tg, ld, so, he, sn, fn, hf, ma, mr, fa, fL, fE, fR, rN, rV, wx, wm, wy, wk, ol, os, oF) (nI c) (nI s) (-1) (-1) := by
  have hcl : (nI (2 * c + s)).toNatClampNeg = 2 * c + s := nI_clamp (by omega)
  refine nm_r (za_2y c s) ⟨vp_in_nI (by omega) (by omega), ?_⟩
  rw [hcl]
  exact br_c h0 (fun e => br_t rfl (h1 e))
theorem ze_has1 {post : Int32 → Prop} {c s a : Nat} {h : Int32} (hc : c < 32) (hs : s < 2) (ha : a < 8) (h1 : ma (2 * c + s) = nI a ∧ mr (2 * c + s) = h → post 1) (h0 : ¬ (ma (2 * c + s) = nI a ∧ mr (2 * c + s) = h) → post 0) : wpY_has post (lc, nc, mf, fr, tg, ld, so, he, sn, fn, hf, ma, mr, fa, fL, fE, fR, rN, rV, wx, wm, wy, wk, ol, os, oF) (nI c) (nI s) (nI a) h := by
  have hcl : (nI (2 * c + s)).toNatClampNeg = 2 * c + s := nI_clamp (by omega)
  have hv : vp_in (nI (2 * c + s)) 64 := vp_in_nI (by omega) (by omega)
  refine nm_r (za_2y c s) ⟨hv, ?_⟩
  rw [hcl]
  refine br_c (fun e => h0 (fun z => za_n1' (n := a) (by omega) (e.symm.trans z.1))) (fun e => br_f (za_n1 (by omega)) ⟨hv, br_c (fun e1 => ⟨hv, br_c (fun e2 => h1 ⟨e1, e2⟩) (fun e2 => h0 (fun z => e2 z.2))⟩) (fun e1 => h0 (fun z => e1 z.1))⟩)
theorem ze_mo5 {s : Nat} (hs : s < 2) : ∀ (n i : Nat) (p : Int32), i + n ≤ 32 → ze_U L N so n p → ∃ k : Int32, (k = -1 ∨ ∃ c, c < 32 ∧ c / 8 < L ∧ c % 8 < N ∧ k = nI c ∧ ¬ ma (2 * c + s) = -1) ∧ (∀ post : Int32 → Prop, post k → wX_methodOwner_5 post (nI s) lc nc mf wl fr tg ld gp hf sn fn ma mr so he sl sg ss wL wN wC wF fL fE fR rN rV (n + 1) p (nI i)) ∧ (∀ post : Int32 → Prop, post k → wY_firstMethod_6 post (nI s) (-1) (-1) lc nc mf fr tg ld so he sn fn hf ma mr fa fL fE fR rN rV wx wm wy wk ol os oF (n + 1) p (nI i)) := by
  intro n
  induction n with
  | zero =>
    intro i p hi h
    obtain rfl : p = -1 := h
    by_cases h32 : i = 32
    · subst h32
      have hb : (32 : Int32) ≤ nI 32 := za_ge 32 (by omega) (by omega)
      exact ⟨-1, Or.inl rfl, fun post hp => br_t hb hp, fun post hp => br_t hb hp⟩
    · have hb : ¬ (32 : Int32) ≤ nI i := za_nge 32 (by omega)
      exact ⟨-1, Or.inl rfl, fun post hp => br_f hb (br_t rfl hp), fun post hp => br_f hb (br_t rfl hp)⟩
  | succ n ih =>
    intro i p hi h
    obtain ⟨c, hc, h1, h2, rfl, hr⟩ := h
    have hb : ¬ (32 : Int32) ≤ nI i := za_nge 32 (by omega)
    have hn : ¬ nI c = -1 := za_n1 (by omega)
    have hv : vp_in (nI c) 32 := vp_in_nI hc (by omega)
    have hcl : (nI c).toNatClampNeg = c := nI_clamp (by omega)
    have hv2 : vp_in (2 * nI c + nI s) 64 := za_i2 hc hs
    have hc2 : (2 * nI c + nI s).toNatClampNeg = 2 * c + s := za_c2 (by omega)
    by_cases e : ma (2 * c + s) = -1
    · obtain ⟨k, hk, HX, HY⟩ := ih (i + 1) _ (by omega) hr
      refine ⟨k, hk, fun post hp => br_f hb (br_f hn ⟨hv2, br_t (by rw [hc2]; exact e) ⟨hv, nm_r (e' := so c) (by rw [hcl]) (nm_r (nI_1 i) (HX post hp))⟩⟩),
        fun post hp => br_f hb (br_f hn ?_)⟩
      refine ze_has0 hc hs (fun _ => ?_) (fun z => absurd e z)
      exact br_t rfl ⟨hv, nm_r (e' := so c) (by rw [hcl]) (nm_r (nI_1 i) (HY post hp))⟩
    · refine ⟨nI c, Or.inr ⟨c, hc, h1, h2, rfl, e⟩, fun post hp => br_f hb (br_f hn ⟨hv2, br_f (by rw [hc2]; exact e) hp⟩), fun post hp => br_f hb (br_f hn ?_)⟩
      refine ze_has0 hc hs (fun z => absurd z e) (fun _ => ?_)
      exact br_f za_n10 hp
theorem ze_mo {s : Nat} {p : Int32} {n : Nat} (hs : s < 2) (h : ze_U L N so n p) : ∃ k : Int32, (k = -1 ∨ ∃ c, c < 32 ∧ c / 8 < L ∧ c % 8 < N ∧ k = nI c ∧ ¬ ma (2 * c + s) = -1) ∧ (∀ post : Int32 → Prop, post k → wpX_methodOwner post (lc, nc, mf, wl, fr, tg, ld, gp, hf, sn, fn, ma, mr, so, he, sl, sg, ss, wL, wN, wC, wF, fL, fE, fR, rN, rV) p (nI s)) ∧ (∀ post : Int32 → Prop, post k → wpY_firstMethod post (lc, nc, mf, fr, tg, ld, so, he, sn, fn, hf, ma, mr, fa, fL, fE, fR, rN, rV, wx, wm, wy, wk, ol, os, oF) p (nI s) (-1) (-1)) := by
  have hn := ze_le h
  obtain ⟨k, hk, HX, HY⟩ := ze_mo5 (lc := lc) (nc := nc) (mf := mf) (wl := wl) (fr := fr) (tg := tg) (ld := ld) (gp := gp) (hf := hf) (sn := sn) (fn := fn) (ma := ma) (mr := mr) (so := so) (he := he) (sl := sl) (sg := sg) (ss := ss) (wL := wL) (wN := wN) (wC := wC) (wF := wF) (fL := fL) (fE := fE) (fR := fR) (rN := rN) (rV := rV) (fa := fa) (wx := wx) (wm := wm) (wy := wy) (wk := wk) (ol := ol) (os := os) (oF := oF) hs n 0 p (by omega) h
  exact ⟨k, hk, fun post hp => ⟨_, HX post hp⟩, fun post hp => ⟨_, HY post hp⟩⟩
theorem ze_eo6 {s a : Nat} {h : Int32} (hs : s < 2) (ha : a < 8) : ∀ (n i : Nat) (p : Int32), i + n ≤ 32 → ze_U L N so n p → ∃ k : Int32, (k = -1 ∨ ∃ c, c < 32 ∧ c / 8 < L ∧ c % 8 < N ∧ k = nI c) ∧ (∀ post : Int32 → Prop, post k → wX_exactOwner_6 post (nI s) (nI a) h lc nc mf wl fr tg ld gp hf sn fn ma mr so he sl sg ss wL wN wC wF fL fE fR rN rV (n + 1) p (nI i)) ∧ (∀ post : Int32 → Prop, post k → wY_firstMethod_6 post (nI s) (nI a) h lc nc mf fr tg ld so he sn fn hf ma mr fa fL fE fR rN rV wx wm wy wk ol os oF (n + 1) p (nI i)) := by
  intro n
  induction n with
  | zero =>
    intro i p hi h
    obtain rfl : p = -1 := h
    by_cases h32 : i = 32
    · subst h32
      have hb : (32 : Int32) ≤ nI 32 := za_ge 32 (by omega) (by omega)
      exact ⟨-1, Or.inl rfl, fun post hp => br_t hb hp, fun post hp => br_t hb hp⟩
    · have hb : ¬ (32 : Int32) ≤ nI i := za_nge 32 (by omega)
      exact ⟨-1, Or.inl rfl, fun post hp => br_f hb (br_t rfl hp), fun post hp => br_f hb (br_t rfl hp)⟩
  | succ n ih =>
    intro i p hi hU
    obtain ⟨c, hc, h1, h2, rfl, hr⟩ := hU
    have hb : ¬ (32 : Int32) ≤ nI i := za_nge 32 (by omega)
    have hn : ¬ nI c = -1 := za_n1 (by omega)
    have hv : vp_in (nI c) 32 := vp_in_nI hc (by omega)
    have hcl : (nI c).toNatClampNeg = c := nI_clamp (by omega)
    have hv2 : vp_in (2 * nI c + nI s) 64 := za_i2 hc hs
    have hc2 : (2 * nI c + nI s).toNatClampNeg = 2 * c + s := za_c2 (by omega)
    by_cases e : ma (2 * c + s) = nI a ∧ mr (2 * c + s) = h
    · refine ⟨nI c, Or.inr ⟨c, hc, h1, h2, rfl⟩, fun post hp => br_f hb (br_f hn ⟨hv2, br_t (by rw [hc2]; exact e.1) ⟨hv2, br_t (by rw [hc2]; exact e.2) hp⟩⟩), fun post hp => br_f hb (br_f hn ?_)⟩
      refine ze_has1 hc hs ha (fun _ => ?_) (fun z => absurd e z)
      exact br_f za_n10 hp
    · obtain ⟨k, hk, HX, HY⟩ := ih (i + 1) _ (by omega) hr
      refine ⟨k, hk, fun post hp => br_f hb (br_f hn ⟨hv2, ?_⟩), fun post hp => br_f hb (br_f hn ?_)⟩
      · rw [hc2]
        exact br_c (fun e1 => ⟨hv2, br_f (fun e2 => e ⟨e1, e2⟩) ⟨hv, nm_r (e' := so c) (by rw [hcl]) (nm_r (nI_1 i) (HX post hp))⟩⟩) (fun e1 => ⟨hv, nm_r (e' := so c) (by rw [hcl]) (nm_r (nI_1 i) (HX post hp))⟩)
      · refine ze_has1 hc hs ha (fun z => absurd z e) (fun _ => ?_)
        exact br_t rfl ⟨hv, nm_r (e' := so c) (by rw [hcl]) (nm_r (nI_1 i) (HY post hp))⟩
theorem ze_eo {s a : Nat} {h p : Int32} {n : Nat} (hs : s < 2) (ha : a < 8) (hU : ze_U L N so n p) : ∃ k : Int32, (k = -1 ∨ ∃ c, c < 32 ∧ c / 8 < L ∧ c % 8 < N ∧ k = nI c) ∧ (∀ post : Int32 → Prop, post k → wpX_exactOwner post (lc, nc, mf, wl, fr, tg, ld, gp, hf, sn, fn, ma, mr, so, he, sl, sg, ss, wL, wN, wC, wF, fL, fE, fR, rN, rV) p (nI s) (nI a) h) ∧ (∀ post : Int32 → Prop, post k → wpY_firstMethod post (lc, nc, mf, fr, tg, ld, so, he, sn, fn, hf, ma, mr, fa, fL, fE, fR, rN, rV, wx, wm, wy, wk, ol, os, oF) p (nI s) (nI a) h) := by
  have hn := ze_le hU
  obtain ⟨k, hk, HX, HY⟩ := ze_eo6 (lc := lc) (nc := nc) (mf := mf) (wl := wl) (fr := fr) (tg := tg) (ld := ld) (gp := gp) (hf := hf) (sn := sn) (fn := fn) (ma := ma) (mr := mr) (so := so) (he := he) (sl := sl) (sg := sg) (ss := ss) (wL := wL) (wN := wN) (wC := wC) (wF := wF) (fL := fL) (fE := fE) (fR := fR) (rN := rN) (rV := rV) (fa := fa) (wx := wx) (wm := wm) (wy := wy) (wk := wk) (ol := ol) (os := os) (oF := oF) hs ha n 0 p (by omega) hU
  exact ⟨k, hk, fun post hp => ⟨_, HX post hp⟩, fun post hp => ⟨_, HY post hp⟩⟩
end ZE
end
section
/-! ties for overriding methods, in lockstep -/
abbrev zf_J : Type := Int32 → Int32 → Int32 → Int32 → Int32 → (Nat → Int32) → (Nat → Int32) → (Nat → Int32) → (Nat → Int32) → (Nat → Int32) → (Nat → Int32) → (Nat → Int32) → (Nat → Int32) → (Nat → Int32) → (Nat → Int32) → (Nat → Int32) → (Nat → Int32) → (Nat → Int32) → (Nat → Int32) → (Nat → Int32) → (Nat → Int32) → (Nat → Int32) → (Nat → Int32) → (Nat → Int32) → (Nat → Int32) → (Nat → Int32) → (Nat → Int32) → Prop
section ZF
variable {lc nc mf wl fr : Int32} {tg ld gp hf sn fn ma mr so he sl sg ss wL wN wC wF fL fE fR rN rV fa wx wm wy wk ol os oF : Nat → Int32}
variable {L N : Nat}
theorem zf_y0 {post : SY → Prop} {J : zf_J} {c s : Nat} {x4 : Int32} (hJ : J (nI (s + 1)) lc nc mf fr tg ld so he sn fn hf ma mr fa fL fE fR rN rV wx wm wy wk ol os oF) : ∀ (n i : Nat) (p : Int32), i + n ≤ 32 → ze_U L N so n p → wY_overrideTies_41 post J (nI c) (nI s) (-1) x4 (n + 1) p (nI i) lc nc mf fr tg ld so he sn fn hf ma mr fa fL fE fR rN rV wx wm wy wk ol os oF := by
  intro n
  induction n with
  | zero =>
    intro i p hi h
    obtain rfl : p = -1 := h
    by_cases h32 : i = 32
    · subst h32
      exact br_t (za_ge 32 (by omega) (by omega)) (nm_r (nI_1 s) hJ)
    · exact br_f (za_nge 32 (by omega)) (br_t rfl (nm_r (nI_1 s) hJ))
  | succ n ih =>
    intro i p hi h
    obtain ⟨e, he, _, _, rfl, hr⟩ := h
    have hcl : (nI e).toNatClampNeg = e := nI_clamp (by omega)
    exact br_f (za_nge 32 (by omega)) (br_f (za_n1 (by omega)) (br_t rfl ⟨vp_in_nI he (by omega), nm_r (e' := so e) (by rw [hcl]) (nm_r (nI_1 i) (ih (i + 1) _ (by omega) hr))⟩))
theorem zf_t40 {c s a b : Nat} (hc : c < 32) (hs : s < 2) (ha : a < 8) (hb : b < 8) : ∀ (n i : Nat) (p : Int32) (gp fa : Nat → Int32), i + n ≤ 32 → ze_U L N so n p → zg_G gp fa →
    ∃ gp' fa' : Nat → Int32, zg_G gp' fa' ∧ (∀ j, 32 ≤ j → gp' j = gp j) ∧ (∀ j, 128 ≤ j → fa' j = fa j) ∧
    (∀ post : SX → Prop, post (lc, nc, mf, wl, fr, tg, ld, gp', hf, sn, fn, ma, mr, so, he, sl, sg, ss, wL, wN, wC, wF, fL, fE, fR, rN, rV) → wX_tieAncestors_40 post (nI c) (nI s) (nI a) (nI b) (n + 1) p (nI i) lc nc mf wl fr tg ld gp hf sn fn ma mr so he sl sg ss wL wN wC wF fL fE fR rN rV) ∧
    (∀ (post : SY → Prop) (J : zf_J), J (nI (s + 1)) lc nc mf fr tg ld so he sn fn hf ma mr fa' fL fE fR rN rV wx wm wy wk ol os oF → wY_overrideTies_41 post J (nI c) (nI s) (nI a) (nI b) (n + 1) p (nI i) lc nc mf fr tg ld so he sn fn hf ma mr fa fL fE fR rN rV wx wm wy wk ol os oF) := by
  intro n
  induction n with
  | zero =>
    intro i p gp fa hi h hG
    obtain rfl : p = -1 := h
    refine ⟨gp, fa, hG, fun _ _ => rfl, fun _ _ => rfl, fun post hp => ?_, fun post J hJ => ?_⟩
    · by_cases h32 : i = 32
      · subst h32
        exact br_t (za_ge 32 (by omega) (by omega)) hp
      · exact br_f (za_nge 32 (by omega)) (br_t rfl hp)
    · by_cases h32 : i = 32
      · subst h32
        exact br_t (za_ge 32 (by omega) (by omega)) (nm_r (nI_1 s) hJ)
      · exact br_f (za_nge 32 (by omega)) (br_t rfl (nm_r (nI_1 s) hJ))
  | succ n ih =>
    intro i p gp fa hi h hG
    obtain ⟨e, he, _, _, rfl, hr⟩ := h
    have hb32 : ¬ (32 : Int32) ≤ nI i := za_nge 32 (by omega)
    have hn : ¬ nI e = -1 := za_n1 (by omega)
    have hna : ¬ nI a = -1 := za_n1 (by omega)
    have hv : vp_in (nI e) 32 := vp_in_nI he (by omega)
    have hcl : (nI e).toNatClampNeg = e := nI_clamp (by omega)
    have hv2 : vp_in (2 * nI e + nI s) 64 := za_i2 he hs
    have hc2 : (2 * nI e + nI s).toNatClampNeg = 2 * e + s := za_c2 (by omega)
    by_cases m : ma (2 * e + s) = nI a ∧ mr (2 * e + s) = nI b
    · have g1 := zg_tie (x := c / 8) (y := e / 8) hG ha (by omega) (by omega)
      have g2 := zg_tie (x := c / 8) (y := e / 8) g1 hb (by omega) (by omega)
      obtain ⟨gp', fa', G, k1, k2, HX, HY⟩ := ih (i + 1) _ _ _ (by omega) hr g2
      refine ⟨gp', fa', G, fun j hj => by rw [k1 j hj, zg_m32 hj, zg_m32 hj], fun j hj => by rw [k2 j hj, pk_un (by omega), pk_un (by omega)], fun post hp => ?_, fun post J hJ => ?_⟩
      · refine br_f hb32 (br_f hn ⟨hv2, br_t (by rw [hc2]; exact m.1) ⟨hv2, br_t (by rw [hc2]; exact m.2) ⟨za_n80, za_n80, ?_⟩⟩⟩)
        refine zg_xadd ha (show c / 8 < 4 by omega) (show e / 8 < 4 by omega) (za_d8 (by omega)) (za_d8 (by omega)) ⟨za_n80, za_n80, ?_⟩
        refine zg_xadd hb (show c / 8 < 4 by omega) (show e / 8 < 4 by omega) (za_d8 (by omega)) (za_d8 (by omega)) ⟨hv, nm_r (e' := so e) (by rw [hcl]) (nm_r (nI_1 i) ?_)⟩
        exact HX post hp
      · refine br_f hb32 (br_f hn (br_f hna ?_))
        refine ze_has1 he hs ha (fun _ => ?_) (fun z => absurd m z)
        refine br_f za_n10 ⟨za_n80, za_n80, ?_⟩
        refine zg_yadd ha (show c / 8 < 4 by omega) (show e / 8 < 4 by omega) (za_d8 (by omega)) (za_d8 (by omega)) ⟨za_n80, za_n80, ?_⟩
        refine zg_yadd hb (show c / 8 < 4 by omega) (show e / 8 < 4 by omega) (za_d8 (by omega)) (za_d8 (by omega)) ⟨hv, nm_r (e' := so e) (by rw [hcl]) (nm_r (nI_1 i) ?_)⟩
        exact HY post J hJ
    · obtain ⟨gp', fa', G, k1, k2, HX, HY⟩ := ih (i + 1) _ _ _ (by omega) hr hG
      refine ⟨gp', fa', G, k1, k2, fun post hp => ?_, fun post J hJ => ?_⟩
      · refine br_f hb32 (br_f hn ⟨hv2, ?_⟩)
        rw [hc2]
        refine br_c (fun e1 => ⟨hv2, br_f (fun e2 => m ⟨e1, e2⟩) ⟨hv, nm_r (e' := so e) (by rw [hcl]) (nm_r (nI_1 i) (HX post hp))⟩⟩) (fun e1 => ⟨hv, nm_r (e' := so e) (by rw [hcl]) (nm_r (nI_1 i) (HX post hp))⟩)
      · refine br_f hb32 (br_f hn (br_f hna ?_))
        refine ze_has1 he hs ha (fun z => absurd z m) (fun _ => ?_)
        exact br_t rfl ⟨hv, nm_r (e' := so e) (by rw [hcl]) (nm_r (nI_1 i) (HY post J hJ))⟩
theorem zf_s {c s n : Nat} (hc : c < 32) (hs : s < 2) (hN : N ≤ 8) (hM : ze_M N ma mr) (hU : ze_U L N so n (so c)) (hG : zg_G gp fa) :
    ∃ gp' fa' : Nat → Int32, zg_G gp' fa' ∧ (∀ j, 32 ≤ j → gp' j = gp j) ∧ (∀ j, 128 ≤ j → fa' j = fa j) ∧
    (∀ (post : SX → Prop) (v : Int32), v = nI c → post (lc, nc, mf, wl, fr, tg, ld, gp', hf, sn, fn, ma, mr, so, he, sl, sg, ss, wL, wN, wC, wF, fL, fE, fR, rN, rV) → wpX_tieAncestors post (lc, nc, mf, wl, fr, tg, ld, gp, hf, sn, fn, ma, mr, so, he, sl, sg, ss, wL, wN, wC, wF, fL, fE, fR, rN, rV) v (nI s)) ∧
    (∀ (post : SY → Prop) (f : Nat), wY_overrideTies_2 post (nI c) f (nI (s + 1)) lc nc mf fr tg ld so he sn fn hf ma mr fa' fL fE fR rN rV wx wm wy wk ol os oF → wY_overrideTies_2 post (nI c) (f + 1) (nI s) lc nc mf fr tg ld so he sn fn hf ma mr fa fL fE fR rN rV wx wm wy wk ol os oF) := by
  have hn := ze_le hU
  have hv : vp_in (nI c) 32 := vp_in_nI hc (by omega)
  have hcl : (nI c).toNatClampNeg = c := nI_clamp (by omega)
  have hv2 : vp_in (2 * nI c + nI s) 64 := za_i2 hc hs
  have hc2 : (2 * nI c + nI s).toNatClampNeg = 2 * c + s := za_c2 (by omega)
  have hv2y : vp_in (nI c * 2 + nI s) 64 := za_i2y hc hs
  have hc2y : (nI c * 2 + nI s).toNatClampNeg = 2 * c + s := za_c2y (by omega)
  have hs2 : ¬ (2 : Int32) ≤ nI s := za_nge 2 hs
  rcases hM (2 * c + s) (by omega) with ⟨e1, e2⟩ | ⟨⟨a, ha, e1⟩, b, hb, e2⟩
  · refine ⟨gp, fa, hG, fun _ _ => rfl, fun _ _ => rfl, fun post v ev hp => ?_, fun post f h => ?_⟩
    · subst ev
      exact ⟨hv2, nm_r (e' := -1) (by rw [hc2]; exact e1) ⟨hv2, nm_r (e' := -1) (by rw [hc2]; exact e2) (br_t rfl hp)⟩⟩
    · refine br_f hs2 ⟨hv2y, nm_r (e' := -1) (by rw [hc2y]; exact e1) ⟨hv2y, nm_r (e' := -1) (by rw [hc2y]; exact e2) ⟨hv, nm_r (e' := so c) (by rw [hcl]) ⟨n + 1, ?_⟩⟩⟩⟩
      exact zf_y0 h n 0 _ (by omega) hU
  · obtain ⟨gp', fa', G, k1, k2, HX, HY⟩ := zf_t40 (lc := lc) (nc := nc) (mf := mf) (wl := wl) (fr := fr) (tg := tg) (ld := ld) (hf := hf) (sn := sn) (fn := fn) (ma := ma) (mr := mr) (so := so) (he := he) (sl := sl) (sg := sg) (ss := ss) (wL := wL) (wN := wN) (wC := wC) (wF := wF) (fL := fL) (fE := fE) (fR := fR) (rN := rN) (rV := rV) (wx := wx) (wm := wm) (wy := wy) (wk := wk) (ol := ol) (os := os) (oF := oF) hc hs (show a < 8 by omega) (show b < 8 by omega) n 0 _ gp fa (by omega) hU hG
    refine ⟨gp', fa', G, k1, k2, fun post v ev hp => ?_, fun post f h => ?_⟩
    · subst ev
      refine ⟨hv2, nm_r (e' := nI a) (by rw [hc2]; exact e1) ⟨hv2, nm_r (e' := nI b) (by rw [hc2]; exact e2) (br_f (za_n1 (by omega)) ⟨hv, nm_r (e' := so c) (by rw [hcl]) ⟨n + 1, ?_⟩⟩)⟩⟩
      exact HX post hp
    · refine br_f hs2 ⟨hv2y, nm_r (e' := nI a) (by rw [hc2y]; exact e1) ⟨hv2y, nm_r (e' := nI b) (by rw [hc2y]; exact e2) ⟨hv, nm_r (e' := so c) (by rw [hcl]) ⟨n + 1, ?_⟩⟩⟩⟩
      exact HY post _ h
theorem zf_loop {p d : Nat} {ks : Nat → Nat} (hN : N ≤ 8) (hM : ze_M N ma mr) (hd : d ≤ p) (hp1 : p ≤ d + 1) (hp : p ≤ 33) (hd32 : d ≤ 32)
    (hk : ∀ j, j < d → ks j < 32 ∧ wC j = nI (ks j) ∧ wk j = nI (ks j) ∧ wF j = 1 ∧ ∃ n, ze_U L N so n (so (ks j))) (hF : d < p → wF d = 0) :
    ∀ (k i : Nat) (gp fa : Nat → Int32), i + k = d → zg_G gp fa →
    ∃ gp' fa' : Nat → Int32, zg_G gp' fa' ∧ (∀ j, 32 ≤ j → gp' j = gp j) ∧ (∀ j, 128 ≤ j → fa' j = fa j) ∧
    (∀ post : SX → Prop, post (lc, nc, mf, nI p, fr, tg, ld, gp', hf, sn, fn, ma, mr, so, he, sl, sg, ss, wL, wN, wC, wF, fL, fE, fR, rN, rV) → wX_tieOverrides_2 post (k + 2) (nI i) lc nc mf (nI p) fr tg ld gp hf sn fn ma mr so he sl sg ss wL wN wC wF fL fE fR rN rV) ∧
    (∀ (post : Int32 → SY → Prop) (x1 x2 : Int32), wY_loadStep_359 post x1 x2 (nI d) 1 (nI d) lc nc mf fr tg ld so he sn fn hf ma mr fa' fL fE fR rN rV wx wm wy wk ol os oF → wY_loadStep_359 post x1 x2 (nI d) (k + 1) (nI i) lc nc mf fr tg ld so he sn fn hf ma mr fa fL fE fR rN rV wx wm wy wk ol os oF) := by
  intro k
  induction k with
  | zero =>
    intro i gp fa hi hG
    obtain rfl : i = d := by omega
    refine ⟨gp, fa, hG, fun _ _ => rfl, fun _ _ => rfl, fun post h => ?_, fun post x1 x2 h => h⟩
    by_cases e : i = p
    · subst e
      exact br_t (nI_le (by omega) (by omega)) h
    · have hcl : (nI i).toNatClampNeg = i := nI_clamp (by omega)
      refine br_f (nI_ge (by omega) (by omega)) ⟨vp_in_nI (by omega) (by omega), br_t (by rw [hcl]; exact hF (by omega)) (nm_r (nI_1 i) ?_)⟩
      exact br_t (nI_le (by omega) (by omega)) h
  | succ k ih =>
    intro i gp fa hi hG
    obtain ⟨hk1, hk2, hk3, hk4, n, hU⟩ := hk i (by omega)
    have hcl : (nI i).toNatClampNeg = i := nI_clamp (by omega)
    have hv : vp_in (nI i) 33 := vp_in_nI (by omega) (by omega)
    have hvy : vp_in (nI i) 40 := vp_in_nI (by omega) (by omega)
    have eC : wC (nI i).toNatClampNeg = nI (ks i) := by rw [hcl]; exact hk2
    obtain ⟨gp1, fa1, G1, a1, b1, X1, Y1⟩ := zf_s (lc := lc) (nc := nc) (mf := mf) (wl := nI p) (fr := fr) (tg := tg) (ld := ld) (gp := gp) (hf := hf) (sn := sn) (fn := fn) (ma := ma) (mr := mr) (so := so) (he := he) (sl := sl) (sg := sg) (ss := ss) (wL := wL) (wN := wN) (wC := wC) (wF := wF) (fL := fL) (fE := fE) (fR := fR) (rN := rN) (rV := rV) (fa := fa) (wx := wx) (wm := wm) (wy := wy) (wk := wk) (ol := ol) (os := os) (oF := oF) (s := 0) hk1 (by decide) hN hM hU hG
    obtain ⟨gp2, fa2, G2, a2, b2, X2, Y2⟩ := zf_s (lc := lc) (nc := nc) (mf := mf) (wl := nI p) (fr := fr) (tg := tg) (ld := ld) (gp := gp1) (hf := hf) (sn := sn) (fn := fn) (ma := ma) (mr := mr) (so := so) (he := he) (sl := sl) (sg := sg) (ss := ss) (wL := wL) (wN := wN) (wC := wC) (wF := wF) (fL := fL) (fE := fE) (fR := fR) (rN := rN) (rV := rV) (fa := fa1) (wx := wx) (wm := wm) (wy := wy) (wk := wk) (ol := ol) (os := os) (oF := oF) (s := 1) hk1 (by decide) hN hM hU G1
    obtain ⟨gp', fa', G, a3, b3, X3, Y3⟩ := ih (i + 1) gp2 fa2 (by omega) G2
    refine ⟨gp', fa', G, fun j hj => by rw [a3 j hj, a2 j hj, a1 j hj], fun j hj => by rw [b3 j hj, b2 j hj, b1 j hj], fun post h => ?_, fun post x1 x2 h => ?_⟩
    · refine br_f (nI_ge (by omega) (by omega)) ⟨hv, br_f (by rw [hcl, hk4]; decide) ⟨hv, ?_⟩⟩
      refine X1 _ _ eC ⟨hv, ?_⟩
      refine X2 _ _ eC (nm_r (nI_1 i) ?_)
      exact X3 post h
    · refine br_f (nI_ge (by omega) (by omega)) ⟨hvy, ?_⟩
      rw [show wk (nI i).toNatClampNeg = nI (ks i) from by rw [hcl]; exact hk3]
      refine ⟨3, Y1 _ _ (Y2 _ _ (br_t (by decide) (nm_r (nI_1 i) ?_)))⟩
      exact Y3 post x1 x2 h
end ZF
end
section
/-! paths of delegation; the walk of a load, in lockstep -/
def zp_T (L N : Nat) (tg : Nat → Int32) : Prop := ∀ l, l < L → ∀ n, n < N → ∃ t, t < L ∧ tg (8 * l + n) = nI t
/-- the path of (x,m) ends after t steps at y -/
def zp_P (L : Nat) (ld tg : Nat → Int32) (m : Nat) : Nat → Nat → Nat → Prop
  | 0, x, y => x = y ∧ (¬ ld (8 * x + m) = -1 ∨ tg (8 * x + m) = nI x)
  | t + 1, x, y => ld (8 * x + m) = -1 ∧ ¬ tg (8 * x + m) = nI x ∧ ∃ z, z < L ∧ tg (8 * x + m) = nI z ∧ zp_P L ld tg m t z y
theorem zp_det {L m : Nat} {ld tg : Nat → Int32} (hL : L ≤ 4) : ∀ (t t' x y y' : Nat), zp_P L ld tg m t x y → zp_P L ld tg m t' x y' → t = t' ∧ y = y' := by
  intro t
  induction t with
  | zero =>
    intro t' x y y' h h'
    cases t' with
    | zero => exact ⟨rfl, h.1.symm.trans h'.1⟩
    | succ t' =>
      rcases h.2 with a | a
      · exact absurd h'.1 a
      · exact absurd a h'.2.1
  | succ t ih =>
    intro t' x y y' h h'
    cases t' with
    | zero =>
      rcases h'.2 with a | a
      · exact absurd h.1 a
      · exact absurd a h.2.1
    | succ t' =>
      obtain ⟨_, _, z, hz, e, hr⟩ := h
      obtain ⟨_, _, z', hz', e', hr'⟩ := h'
      have : z = z' := za_im (e.symm.trans e') (by omega) (by omega)
      subst this
      have := ih t' z y y' hr hr'
      exact ⟨by omega, this.2⟩
theorem zp_end {L m : Nat} {ld tg : Nat → Int32} : ∀ (t x y : Nat), zp_P L ld tg m t x y → zp_P L ld tg m 0 y y := by
  intro t
  induction t with
  | zero => intro x y h; obtain ⟨rfl, h2⟩ := h; exact ⟨rfl, h2⟩
  | succ t ih =>
    intro x y h
    obtain ⟨_, _, z, _, _, hr⟩ := h
    exact ih z y hr
section ZP
variable {lc nc mf wl fr : Int32} {tg ld gp hf sn fn ma mr so he sl sg ss wL wN wC wF fL fE fR rN rV fa wx wm wy wk ol os oF : Nat → Int32}
variable {L N : Nat}
theorem zp_pe5 {m : Nat} (hT : zp_T L N tg) (hL : L ≤ 4) (hN : N ≤ 8) (hm : m < N) : ∀ k i z : Nat, i + k = 4 → z < L → ∃ r : Int32, (r = -5 ∨ ∃ y t, y < L ∧ t + i ≤ 3 ∧ r = nI y ∧ zp_P L ld tg m t z y) ∧ (∀ post : Int32 → Prop, post r → wX_pathEnd_5 post (nI m) lc nc mf wl fr tg ld gp hf sn fn ma mr so he sl sg ss wL wN wC wF fL fE fR rN rV (k + 1) (nI z) (nI i)) ∧ (∀ post : Int32 → Prop, post r → wY_pathEnd_5 post (nI m) lc nc mf fr tg ld so he sn fn hf ma mr fa fL fE fR rN rV wx wm wy wk ol os oF (k + 1) (nI z) (nI i)) := by
  intro k
  induction k with
  | zero =>
    intro i z hi hz
    obtain rfl : i = 4 := by omega
    have hb : (4 : Int32) ≤ nI 4 := za_ge 4 (by omega) (by omega)
    exact ⟨-5, Or.inl rfl, fun post hp => br_t hb hp, fun post hp => br_t hb hp⟩
  | succ k ih =>
    intro i z hi hz
    have hb : ¬ (4 : Int32) ≤ nI i := za_nge 4 (by omega)
    have hv : vp_in (nI (8 * z + m)) 32 := vp_in_nI (by omega) (by omega)
    have hc : (nI (8 * z + m)).toNatClampNeg = 8 * z + m := nI_clamp (by omega)
    have hvy : vp_in (nI z * 8 + nI m) 32 := za_i8y (by omega) (by omega)
    have hcy : (nI z * 8 + nI m).toNatClampNeg = 8 * z + m := za_c8y (by omega)
    by_cases h1 : ld (8 * z + m) = -1
    · by_cases h2 : tg (8 * z + m) = nI z
      · exact ⟨nI z, Or.inr ⟨z, 0, hz, by omega, rfl, rfl, Or.inr h2⟩,
          fun post hp => br_f hb (nm_r (za_8 z m) ⟨hv, br_t (by rw [hc]; exact h1) ⟨hv, br_t (by rw [hc]; exact h2) hp⟩⟩),
          fun post hp => br_f hb ⟨hvy, br_t (by rw [hcy]; exact h1) ⟨hvy, br_t (by rw [hcy]; exact h2) hp⟩⟩⟩
      · obtain ⟨t, ht, et⟩ := hT z hz m hm
        obtain ⟨r, hr, HX, HY⟩ := ih (i + 1) t (by omega) ht
        refine ⟨r, ?_, fun post hp => br_f hb (nm_r (za_8 z m) ⟨hv, br_t (by rw [hc]; exact h1) ⟨hv, br_f (by rw [hc]; exact h2) ⟨hv, nm_r (e' := nI t) (by rw [hc]; exact et) (nm_r (nI_1 i) (HX post hp))⟩⟩⟩),
          fun post hp => br_f hb ⟨hvy, br_t (by rw [hcy]; exact h1) ⟨hvy, br_f (by rw [hcy]; exact h2) ⟨hvy, nm_r (e' := nI t) (by rw [hcy]; exact et) (nm_r (nI_1 i) (HY post hp))⟩⟩⟩⟩
        rcases hr with e | ⟨y, s, hy, hs, e, hp⟩
        · exact Or.inl e
        · exact Or.inr ⟨y, s + 1, hy, by omega, e, h1, h2, t, ht, et, hp⟩
    · exact ⟨nI z, Or.inr ⟨z, 0, hz, by omega, rfl, rfl, Or.inl h1⟩,
        fun post hp => br_f hb (nm_r (za_8 z m) ⟨hv, br_f (by rw [hc]; exact h1) hp⟩),
        fun post hp => br_f hb ⟨hvy, br_f (by rw [hcy]; exact h1) hp⟩⟩
theorem zp_pe {m z : Nat} (hT : zp_T L N tg) (hL : L ≤ 4) (hN : N ≤ 8) (hm : m < N) (hz : z < L) : ∃ r : Int32, (r = -5 ∨ ∃ y t, y < L ∧ t ≤ 3 ∧ r = nI y ∧ zp_P L ld tg m t z y) ∧ (∀ post : Int32 → Prop, post r → wpX_pathEnd post (lc, nc, mf, wl, fr, tg, ld, gp, hf, sn, fn, ma, mr, so, he, sl, sg, ss, wL, wN, wC, wF, fL, fE, fR, rN, rV) (nI z) (nI m)) ∧ (∀ post : Int32 → Prop, post r → wpY_pathEnd post (lc, nc, mf, fr, tg, ld, so, he, sn, fn, hf, ma, mr, fa, fL, fE, fR, rN, rV, wx, wm, wy, wk, ol, os, oF) (nI z) (nI m)) := by
  obtain ⟨r, hr, HX, HY⟩ := zp_pe5 (lc := lc) (nc := nc) (mf := mf) (wl := wl) (fr := fr) (tg := tg) (ld := ld) (gp := gp) (hf := hf) (sn := sn) (fn := fn) (ma := ma) (mr := mr) (so := so) (he := he) (sl := sl) (sg := sg) (ss := ss) (wL := wL) (wN := wN) (wC := wC) (wF := wF) (fL := fL) (fE := fE) (fR := fR) (rN := rN) (rV := rV) (fa := fa) (wx := wx) (wm := wm) (wy := wy) (wk := wk) (ol := ol) (os := os) (oF := oF) hT hL hN hm 4 0 z rfl hz
  exact ⟨r, hr, fun post hp => ⟨_, HX post hp⟩, fun post hp => ⟨_, HY post hp⟩⟩
/-! the pairs so far -/
theorem zq_xw {post : Int32 → Prop} {i c : Nat} {ks : Nat → Nat} (hi : i ≤ 33) (hc : c < 32) (hk : ∀ j, j < i → wC j = nI (ks j) ∧ ks j < 32) (h1 : (∃ j, j < i ∧ ks j = c) → post 1) (h0 : (∀ j, j < i → ¬ ks j = c) → post 0) : ∀ k j : Nat, j + k = i → (∀ q, q < j → ¬ ks q = c) → wX_isWalked_2 post (nI c) lc nc mf (nI i) fr tg ld gp hf sn fn ma mr so he sl sg ss wL wN wC wF fL fE fR rN rV (k + 1) (nI j) := by
  intro k
  induction k with
  | zero =>
    intro j hj h
    obtain rfl : j = i := by omega
    exact br_t (nI_le (by omega) (by omega)) (h0 h)
  | succ k ih =>
    intro j hj h
    have hcl : (nI j).toNatClampNeg = j := nI_clamp (by omega)
    obtain ⟨e1, e2⟩ := hk j (by omega)
    refine br_f (nI_ge (by omega) (by omega)) ⟨vp_in_nI (by omega) (by omega), ?_⟩
    rw [hcl, e1]
    by_cases e : ks j = c
    · exact br_t (congrArg nI e) (h1 ⟨j, by omega, e⟩)
    · exact br_f (fun z => e (za_im z (by omega) (by omega))) (nm_r (nI_1 j) (ih (j + 1) (by omega) (lt_s h e)))
theorem zq_y109 {post : Int32 → SY → Prop} {J : zf_J} {x1 x2 x5 x6 x7 x8 : Int32} {i c : Nat} {ks : Nat → Nat} (hi : i ≤ 33) (hc : c < 32) (hk : ∀ j, j < i → wk j = nI (ks j) ∧ ks j < 32) (h1 : (∃ j, j < i ∧ ks j = c) → post (-6) (lc, nc, mf, fr, tg, ld, so, he, sn, fn, hf, ma, mr, fa, fL, fE, fR, rN, rV, wx, wm, wy, wk, ol, os, oF)) (h0 : (∀ j, j < i → ¬ ks j = c) → wY_loadStep_109 post J x1 x2 (nI i) x5 x6 x7 x8 (nI c) lc nc mf fr tg ld so he sn fn hf ma mr fa fL fE fR rN rV wx wm wy wk ol os oF 1 (nI i)) : ∀ k j : Nat, j + k = i → (∀ q, q < j → ¬ ks q = c) → wY_loadStep_109 post J x1 x2 (nI i) x5 x6 x7 x8 (nI c) lc nc mf fr tg ld so he sn fn hf ma mr fa fL fE fR rN rV wx wm wy wk ol os oF (k + 1) (nI j) := by
  intro k
  induction k with
  | zero =>
    intro j hj h
    obtain rfl : j = i := by omega
    exact h0 h
  | succ k ih =>
    intro j hj h
    have hcl : (nI j).toNatClampNeg = j := nI_clamp (by omega)
    obtain ⟨e1, e2⟩ := hk j (by omega)
    refine br_f (nI_ge (by omega) (by omega)) ⟨vp_in_nI (by omega) (by omega), ?_⟩
    rw [hcl, e1]
    by_cases e : ks j = c
    · exact br_t (congrArg nI e) (h1 ⟨j, by omega, e⟩)
    · exact br_f (fun z => e (za_im z (by omega) (by omega))) (nm_r (nI_1 j) (ih (j + 1) (by omega) (lt_s h e)))
theorem zq_xap {post : SX → Prop} {i : Nat} {a b c f : Int32} (hi : i ≤ 32) (h01 : f = 0 ∨ f = 1) (hp : post (lc, nc, mf, nI (i + 1), fr, tg, ld, gp, hf, sn, fn, ma, mr, so, he, sl, sg, ss, upd wL i a, upd wN i b, upd wC i c, upd wF i f, fL, fE, fR, rN, rV)) : wpX_addPair post (lc, nc, mf, nI i, fr, tg, ld, gp, hf, sn, fn, ma, mr, so, he, sl, sg, ss, wL, wN, wC, wF, fL, fE, fR, rN, rV) a b c f := by
  have hv : vp_in (nI i) 33 := vp_in_nI (by omega) (by omega)
  have hcl : (nI i).toNatClampNeg = i := nI_clamp (by omega)
  exact br_f (za_nge 33 (by omega)) ⟨hv, nm_r (e' := upd wL i a) (by rw [hcl]) ⟨hv, nm_r (e' := upd wN i b) (by rw [hcl]) ⟨hv, nm_r (e' := upd wC i c) (by rw [hcl]) ⟨hv, nm_r (e' := upd wF i f) (by rw [hcl, za_b01 h01]) (nm_r (nI_1 i) hp)⟩⟩⟩⟩
theorem zq_y165 {post : Int32 → SY → Prop} {J : zf_J} {x1 x2 x4 x5 x6 x8 x9 x10 : Int32} {i : Nat} (hi : i < 40) (h : J (nI (i + 1)) x4 x8 x10 (nI (i + 1)) tg ld so he sn fn hf ma mr fa fL fE fR rN rV (upd wx i x5) (upd wm i x6) (upd wy i x8) (upd wk i x9) ol os oF) : wY_loadStep_165 post J x1 x2 x4 x5 x6 (nI i) x8 x9 x10 lc nc mf fr tg ld so he sn fn hf ma mr fa fL fE fR rN rV wx wm wy wk ol os oF := by
  have hv : vp_in (nI i) 40 := vp_in_nI (by omega) (by omega)
  have hcl : (nI i).toNatClampNeg = i := nI_clamp (by omega)
  exact ⟨hv, nm_r (e' := upd wx i x5) (by rw [hcl]) ⟨hv, nm_r (e' := upd wm i x6) (by rw [hcl]) ⟨hv, nm_r (e' := upd wy i x8) (by rw [hcl]) ⟨hv, nm_r (e' := upd wk i x9) (by rw [hcl]) (nm_r (nI_1 i) (nm_r (nI_1 i) h))⟩⟩⟩⟩
end ZP
end
section
/-! the walk of a load: both loops at once -/
def zw_u (f : Nat → Nat) (i v : Nat) : Nat → Nat := fun j => if j = i then v else f j
theorem zw_us {f : Nat → Nat} {i v : Nat} : zw_u f i v i = v := if_pos rfl
theorem zw_un {f : Nat → Nat} {i v j : Nat} (h : j ≠ i) : zw_u f i v j = f j := if_neg h
/-- only defined classes are held, each by its own cell too -/
def zw_D (L N : Nat) (ld : Nat → Int32) : Prop := ∀ l, l < 4 → ∀ n, n < 8 → ld (8 * l + n) = -1 ∨ (l < L ∧ n < N ∧ ∃ c, c < 32 ∧ c / 8 < L ∧ c % 8 < N ∧ ld (8 * l + n) = nI c ∧ ld c = nI c)
/-- pair j of the walk, in the ghosts and in both sides' arrays -/
def zw_j (L N : Nat) (ld tg : Nat → Int32) (xs ms ys ks : Nat → Nat) (wL wN wC wx wm wy wk : Nat → Int32) (j : Nat) : Prop :=
  xs j < L ∧ ms j < N ∧ ys j < L ∧ (∃ t, t ≤ 3 ∧ zp_P L ld tg (ms j) t (xs j) (ys j)) ∧
  wL j = nI (xs j) ∧ wN j = nI (ms j) ∧ wC j = nI (ks j) ∧ wx j = nI (xs j) ∧ wm j = nI (ms j) ∧ wy j = nI (ys j) ∧ wk j = nI (ks j)
/-- pair j is to be defined -/
def zw_f (ld : Nat → Int32) (ms ys ks : Nat → Nat) (wF : Nat → Int32) (j : Nat) : Prop := ks j = 8 * ys j + ms j ∧ ld (8 * ys j + ms j) = -1 ∧ wF j = 1
/-- the pairs so far, all to be defined -/
def zw_S (L N : Nat) (ld tg : Nat → Int32) (i : Nat) (xs ms ys ks : Nat → Nat) (wL wN wC wF wx wm wy wk : Nat → Int32) : Prop :=
  (∀ j, j < i → zw_j L N ld tg xs ms ys ks wL wN wC wx wm wy wk j) ∧ (∀ j, j < i → zw_f ld ms ys ks wF j) ∧ (∀ j, j < i → ∀ q, q < j → ¬ ks q = ks j)
/-- the whole walk: p pairs, the first d to be defined -/
def zw_O (L N : Nat) (ld tg : Nat → Int32) (p d : Nat) (xs ms ys ks : Nat → Nat) (wL wN wC wF wx wm wy wk : Nat → Int32) : Prop :=
  (d ≤ p ∧ p ≤ d + 1 ∧ 0 < p ∧ p ≤ 33 ∧ d ≤ 32) ∧ zw_S L N ld tg d xs ms ys ks wL wN wC wF wx wm wy wk ∧
  (d < p → zw_j L N ld tg xs ms ys ks wL wN wC wx wm wy wk d ∧ wF d = 0 ∧ ld (8 * ys d + ms d) = nI (ks d) ∧ ks d < 32 ∧ ks d / 8 < L ∧ ks d % 8 < N ∧ ld (ks d) = nI (ks d))
theorem zw_le {L N i : Nat} {ld tg : Nat → Int32} {xs ms ys ks : Nat → Nat} {wL wN wC wF wx wm wy wk : Nat → Int32} (hL : L ≤ 4) (hN : N ≤ 8) (h : zw_S L N ld tg i xs ms ys ks wL wN wC wF wx wm wy wk) : i ≤ 32 := by
  refine zu_pg 32 i ks (fun j hj => ?_) (fun j hj q hq => h.2.2 j hj q hq)
  obtain ⟨_, h2, h3, _⟩ := h.1 j hj
  rw [(h.2.1 j hj).1]
  omega
theorem zw_k32 {L N i j : Nat} {ld tg : Nat → Int32} {xs ms ys ks : Nat → Nat} {wL wN wC wF wx wm wy wk : Nat → Int32} (hL : L ≤ 4) (hN : N ≤ 8) (h : zw_S L N ld tg i xs ms ys ks wL wN wC wF wx wm wy wk) (hj : j < i) : ks j < 32 ∧ ks j / 8 < L ∧ ks j % 8 < N ∧ ks j / 8 = ys j ∧ ks j % 8 = ms j := by
  obtain ⟨_, h2, h3, _⟩ := h.1 j hj
  have e := (h.2.1 j hj).1
  omega
theorem zw_jn {L N i x m y k : Nat} {ld tg : Nat → Int32} {xs ms ys ks : Nat → Nat} {wL wN wC wx wm wy wk : Nat → Int32} (hx : x < L) (hm : m < N) (hy : y < L) (hp : ∃ t, t ≤ 3 ∧ zp_P L ld tg m t x y) :
    zw_j L N ld tg (zw_u xs i x) (zw_u ms i m) (zw_u ys i y) (zw_u ks i k) (upd wL i (nI x)) (upd wN i (nI m)) (upd wC i (nI k)) (upd wx i (nI x)) (upd wm i (nI m)) (upd wy i (nI y)) (upd wk i (nI k)) i := by
  unfold zw_j
  simp only [zw_us, pk_us]
  exact ⟨hx, hm, hy, hp, trivial, trivial, trivial, trivial, trivial, trivial, trivial⟩
theorem zw_jo {L N i j x m y k : Nat} {a b c d e f g : Int32} {ld tg : Nat → Int32} {xs ms ys ks : Nat → Nat} {wL wN wC wx wm wy wk : Nat → Int32} (hj : j ≠ i) (h : zw_j L N ld tg xs ms ys ks wL wN wC wx wm wy wk j) :
    zw_j L N ld tg (zw_u xs i x) (zw_u ms i m) (zw_u ys i y) (zw_u ks i k) (upd wL i a) (upd wN i b) (upd wC i c) (upd wx i d) (upd wm i e) (upd wy i f) (upd wk i g) j := by
  unfold zw_j at h ⊢
  simp only [zw_un hj, pk_un hj]
  exact h
theorem zw_fo {i j m y k : Nat} {a : Int32} {ld : Nat → Int32} {ms ys ks : Nat → Nat} {wF : Nat → Int32} (hj : j ≠ i) (h : zw_f ld ms ys ks wF j) : zw_f ld (zw_u ms i m) (zw_u ys i y) (zw_u ks i k) (upd wF i a) j := by
  unfold zw_f at h ⊢
  simp only [zw_un hj, pk_un hj]
  exact h
theorem zw_S1 {L N i x m y : Nat} {ld tg : Nat → Int32} {xs ms ys ks : Nat → Nat} {wL wN wC wF wx wm wy wk : Nat → Int32} (h : zw_S L N ld tg i xs ms ys ks wL wN wC wF wx wm wy wk) (hx : x < L) (hm : m < N) (hy : y < L) (hp : ∃ t, t ≤ 3 ∧ zp_P L ld tg m t x y) (hl : ld (8 * y + m) = -1) (hw : ∀ j, j < i → ¬ ks j = 8 * y + m) :
    zw_S L N ld tg (i + 1) (zw_u xs i x) (zw_u ms i m) (zw_u ys i y) (zw_u ks i (8 * y + m)) (upd wL i (nI x)) (upd wN i (nI m)) (upd wC i (nI (8 * y + m))) (upd wF i 1) (upd wx i (nI x)) (upd wm i (nI m)) (upd wy i (nI y)) (upd wk i (nI (8 * y + m))) := by
  refine ⟨lt_s (fun j hj => zw_jo (by omega) (h.1 j hj)) (zw_jn hx hm hy hp), lt_s (fun j hj => zw_fo (by omega) (h.2.1 j hj)) ?_, lt_s (fun j hj q hq => ?_) (fun q hq => ?_)⟩
  · unfold zw_f
    rw [zw_us, zw_us, zw_us, pk_us]
    exact ⟨rfl, hl, rfl⟩
  · rw [zw_un (by omega), zw_un (by omega)]
    exact h.2.2 j hj q hq
  · rw [zw_un (by omega), zw_us]
    exact hw q hq
theorem zw_Sk {L N i x m y k : Nat} {a b c d e f g w : Int32} {ld tg : Nat → Int32} {xs ms ys ks : Nat → Nat} {wL wN wC wF wx wm wy wk : Nat → Int32} (h : zw_S L N ld tg i xs ms ys ks wL wN wC wF wx wm wy wk) :
    zw_S L N ld tg i (zw_u xs i x) (zw_u ms i m) (zw_u ys i y) (zw_u ks i k) (upd wL i a) (upd wN i b) (upd wC i c) (upd wF i w) (upd wx i d) (upd wm i e) (upd wy i f) (upd wk i g) := by
  refine ⟨fun j hj => zw_jo (by omega) (h.1 j hj), fun j hj => zw_fo (by omega) (h.2.1 j hj), fun j hj q hq => ?_⟩
  rw [zw_un (by omega), zw_un (by omega)]
  exact h.2.2 j hj q hq
/-- how a walk may end: refused, or p pairs -/
def zw_out (L N l n : Nat) (lc nc mf fr : Int32) (tg ld gp hf sn fn ma mr so he sl sg ss fL fE fR rN rV fa ol os oF : Nat → Int32) (WX : (Int32 → SX → Prop) → Prop) (WY : (Int32 → SY → Prop) → Prop) : Prop :=
  (∃ (r wl : Int32) (wL wN wC wF wx wm wy wk : Nat → Int32), (r = -4 ∨ r = -5 ∨ r = -6) ∧ (∀ post : Int32 → SX → Prop, post r (lc, nc, mf, wl, fr, tg, ld, gp, hf, sn, fn, ma, mr, so, he, sl, sg, ss, wL, wN, wC, wF, fL, fE, fR, rN, rV) → WX post) ∧ (∀ post : Int32 → SY → Prop, post r (lc, nc, mf, fr, tg, ld, so, he, sn, fn, hf, ma, mr, fa, fL, fE, fR, rN, rV, wx, wm, wy, wk, ol, os, oF) → WY post)) ∨
  (∃ (p d : Nat) (xs ms ys ks : Nat → Nat) (wL wN wC wF wx wm wy wk : Nat → Int32), zw_O L N ld tg p d xs ms ys ks wL wN wC wF wx wm wy wk ∧ xs 0 = l ∧ ms 0 = n ∧
    (∀ post : Int32 → SX → Prop, post 0 (lc, nc, mf, nI p, fr, tg, ld, gp, hf, sn, fn, ma, mr, so, he, sl, sg, ss, wL, wN, wC, wF, fL, fE, fR, rN, rV) → WX post) ∧ (∀ post : Int32 → SY → Prop, (∃ f, wY_loadStep_223 post (nI l) (nI n) (nI p) (nI d) lc nc mf fr f 0 tg ld so he sn fn hf ma mr fa fL fE fR rN rV wx wm wy wk ol os oF) → WY post))
section ZW
variable {lc nc mf wl fr : Int32} {tg ld gp hf sn fn ma mr so he sl sg ss wL wN wC wF fL fE fR rN rV fa wx wm wy wk ol os oF : Nat → Int32}
variable {L N : Nat}
theorem zw_mono {l n : Nat} {WX WX' : (Int32 → SX → Prop) → Prop} {WY WY' : (Int32 → SY → Prop) → Prop} (h : zw_out L N l n lc nc mf fr tg ld gp hf sn fn ma mr so he sl sg ss fL fE fR rN rV fa ol os oF WX WY) (hX : ∀ post, WX post → WX' post) (hY : ∀ post, WY post → WY' post) : zw_out L N l n lc nc mf fr tg ld gp hf sn fn ma mr so he sl sg ss fL fE fR rN rV fa ol os oF WX' WY' := by
  rcases h with ⟨r, wl, wL, wN, wC, wF, wx, wm, wy, wk, h1, h2, h3⟩ | ⟨p, d, xs, ms, ys, ks, wL, wN, wC, wF, wx, wm, wy, wk, h1, h2, h3, h4, h5⟩
  · exact Or.inl ⟨r, wl, wL, wN, wC, wF, wx, wm, wy, wk, h1, fun post hp => hX post (h2 post hp), fun post hp => hY post (h3 post hp)⟩
  · exact Or.inr ⟨p, d, xs, ms, ys, ks, wL, wN, wC, wF, wx, wm, wy, wk, h1, h2, h3, fun post hp => hX post (h4 post hp), fun post hp => hY post (h5 post hp)⟩
theorem zw_loop {l n : Nat} (hT : zp_T L N tg) (hD : zw_D L N ld) (hS : ∀ c, c < 32 → zb_N N (sn c)) (hL : L ≤ 4) (hN : N ≤ 8) : ∀ (k i x m : Nat) (xs ms ys ks : Nat → Nat) (wL wN wC wF wx wm wy wk : Nat → Int32), i + k = 33 → x < L → m < N → (i = 0 → x = l ∧ m = n) → (0 < i → xs 0 = l ∧ ms 0 = n) → zw_S L N ld tg i xs ms ys ks wL wN wC wF wx wm wy wk →
    zw_out L N l n lc nc mf fr tg ld gp hf sn fn ma mr so he sl sg ss fL fE fR rN rV fa ol os oF (fun post => wX_walk_13 post (k + 1) (nI x) (nI m) (nI i) lc nc mf (nI i) fr tg ld gp hf sn fn ma mr so he sl sg ss wL wN wC wF fL fE fR rN rV) (fun post => wY_loadStep_41 post (nI l) (nI n) lc nc mf fr (k + 1) (nI i) (nI i) (nI x) (nI m) (nI i) tg ld so he sn fn hf ma mr fa fL fE fR rN rV wx wm wy wk ol os oF) := by
  intro k
  induction k with
  | zero =>
    intro i x m xs ms ys ks wL wN wC wF wx wm wy wk hi _ _ _ _ hw
    have := zw_le hL hN hw
    omega
  | succ k ih =>
    intro i x m xs ms ys ks wL wN wC wF wx wm wy wk hi hx hm h0 h1 hw
    have hi32 := zw_le hL hN hw
    have b33 : ¬ (33 : Int32) ≤ nI i := za_nge 33 (by omega)
    have b40 : ¬ (40 : Int32) ≤ nI i := za_nge 40 (by omega)
    have hmn : ¬ nI m = -1 := za_n1 (by omega)
    obtain ⟨r, hr, PX, PY⟩ := zp_pe (lc := lc) (nc := nc) (mf := mf) (wl := nI i) (fr := fr) (tg := tg) (ld := ld) (gp := gp) (hf := hf) (sn := sn) (fn := fn) (ma := ma) (mr := mr) (so := so) (he := he) (sl := sl) (sg := sg) (ss := ss) (wL := wL) (wN := wN) (wC := wC) (wF := wF) (fL := fL) (fE := fE) (fR := fR) (rN := rN) (rV := rV) (fa := fa) (wx := wx) (wm := wm) (wy := wy) (wk := wk) (ol := ol) (os := os) (oF := oF) hT hL hN hm hx
    have x0 : ∀ {f : Nat → Nat} {v : Nat} {a : Nat}, (i = 0 → v = a) → (0 < i → f 0 = a) → zw_u f i v 0 = a := by
      intro f v a ha hb
      by_cases e : i = 0
      · subst e; rw [zw_us]; exact ha rfl
      · rw [zw_un (by omega)]; exact hb (by omega)
    rcases hr with rfl | ⟨y, t, hy, ht, rfl, hpt⟩
    · refine Or.inl ⟨-5, nI i, wL, wN, wC, wF, wx, wm, wy, wk, Or.inr (Or.inl rfl), fun post hp => br_f b33 (PX _ (br_f (by decide) hp)), fun post hp => br_f b40 (br_f hmn (PY _ (br_f (by decide) hp)))⟩
    · have p0 : (0 : Int32) ≤ nI y := nI_pos' (by omega)
      have hv : vp_in (8 * nI y + nI m) 32 := za_i8 (by omega) (by omega)
      have hc : (8 * nI y + nI m).toNatClampNeg = 8 * y + m := za_c8 (by omega)
      have hvy : vp_in (nI y * 8 + nI m) 32 := za_i8y (by omega) (by omega)
      have hcy : (nI y * 8 + nI m).toNatClampNeg = 8 * y + m := za_c8y (by omega)
      have hpe : ∃ t, t ≤ 3 ∧ zp_P L ld tg m t x y := ⟨t, ht, hpt⟩
      have hv2 : vp_in (nI (8 * y + m)) 32 := vp_in_nI (by omega) (by omega)
      have hc2 : (nI (8 * y + m)).toNatClampNeg = 8 * y + m := nI_clamp (by omega)
      rcases hD y (by omega) m (by omega) with hl | ⟨_, _, c, hc32, hc8, hcN, hl, hl2⟩
      · -- not loaded: to be defined
        have kC : ∀ j, j < i → wC j = nI (ks j) ∧ ks j < 32 := fun j hj => ⟨(hw.1 j hj).2.2.2.2.2.2.1, (zw_k32 hL hN hw hj).1⟩
        have kK : ∀ j, j < i → wk j = nI (ks j) ∧ ks j < 32 := fun j hj => ⟨(hw.1 j hj).2.2.2.2.2.2.2.2.2.2, (zw_k32 hL hN hw hj).1⟩
        by_cases hin : ∃ j, j < i ∧ ks j = 8 * y + m
        · refine Or.inl ⟨-6, nI i, wL, wN, wC, wF, wx, wm, wy, wk, Or.inr (Or.inr rfl), fun post hp => ?_, fun post hp => ?_⟩
          · refine br_f b33 (PX _ (br_t p0 ⟨hv, nm_r (e' := -1) (by rw [hc]; exact hl) (br_t rfl (nm_r (za_8 y m) ?_))⟩))
            refine ⟨i + 1, zq_xw (ks := ks) (by omega) (by omega) kC (fun _ => ?_) (fun z => ?_) i 0 (by omega) (fun q hq => by omega)⟩
            · exact br_f za_n10 hp
            · obtain ⟨j, hj, e⟩ := hin
              exact absurd e (z j hj)
          · refine br_f b40 (br_f hmn (PY _ (br_t p0 ⟨hvy, nm_r (e' := -1) (by rw [hcy]; exact hl) (br_t rfl (nm_r (za_8 y m) ⟨i + 1, ?_⟩))⟩)))
            refine zq_y109 (ks := ks) (by omega) (by omega) kK (fun _ => hp) (fun z => ?_) i 0 (by omega) (fun q hq => by omega)
            obtain ⟨j, hj, e⟩ := hin
            exact absurd e (z j hj)
        · have hnin : ∀ j, j < i → ¬ ks j = 8 * y + m := fun j hj e => hin ⟨j, hj, e⟩
          have S1 := zw_S1 hw hx hm hy hpe hl hnin
          by_cases hfl : hf (8 * y + m) = 0
          · refine Or.inl ⟨-4, nI i, wL, wN, wC, wF, wx, wm, wy, wk, Or.inl rfl, fun post hp => ?_, fun post hp => ?_⟩
            · refine br_f b33 (PX _ (br_t p0 ⟨hv, nm_r (e' := -1) (by rw [hc]; exact hl) (br_t rfl (nm_r (za_8 y m) ?_))⟩))
              refine ⟨i + 1, zq_xw (ks := ks) (by omega) (by omega) kC (fun z => absurd z hin) (fun _ => ?_) i 0 (by omega) (fun q hq => by omega)⟩
              exact br_t rfl ⟨hv2, br_t (by rw [hc2]; exact hfl) hp⟩
            · refine br_f b40 (br_f hmn (PY _ (br_t p0 ⟨hvy, nm_r (e' := -1) (by rw [hcy]; exact hl) (br_t rfl (nm_r (za_8 y m) ⟨i + 1, ?_⟩))⟩)))
              refine zq_y109 (ks := ks) (by omega) (by omega) kK (fun z => absurd z hin) (fun _ => ?_) i 0 (by omega) (fun q hq => by omega)
              exact br_t (nI_le (by omega) (by omega)) ⟨hv2, br_t (by rw [hc2]; exact hfl) hp⟩
          · -- X and Y up to the next name
            have gX : ∀ (post : Int32 → SX → Prop) (f : Nat), ((sn (8 * y + m) = -1 → post 0 (lc, nc, mf, nI (i + 1), fr, tg, ld, gp, hf, sn, fn, ma, mr, so, he, sl, sg, ss, upd wL i (nI x), upd wN i (nI m), upd wC i (nI (8 * y + m)), upd wF i 1, fL, fE, fR, rN, rV)) ∧ (∀ m' : Nat, sn (8 * y + m) = nI m' → m' < N → wX_walk_13 post f (nI y) (nI m') (nI (i + 1)) lc nc mf (nI (i + 1)) fr tg ld gp hf sn fn ma mr so he sl sg ss (upd wL i (nI x)) (upd wN i (nI m)) (upd wC i (nI (8 * y + m))) (upd wF i 1) fL fE fR rN rV)) → wX_walk_13 post (f + 1) (nI x) (nI m) (nI i) lc nc mf (nI i) fr tg ld gp hf sn fn ma mr so he sl sg ss wL wN wC wF fL fE fR rN rV := by
              intro post f hh
              refine br_f b33 (PX _ (br_t p0 ⟨hv, nm_r (e' := -1) (by rw [hc]; exact hl) (br_t rfl (nm_r (za_8 y m) ?_))⟩))
              refine ⟨i + 1, zq_xw (ks := ks) (by omega) (by omega) kC (fun z => absurd z hin) (fun _ => ?_) i 0 (by omega) (fun q hq => by omega)⟩
              refine br_t rfl ⟨hv2, br_f (by rw [hc2]; exact hfl) ?_⟩
              refine zq_xap hi32 (Or.inr rfl) ⟨hv2, ?_⟩
              rw [hc2]
              rcases hS (8 * y + m) (by omega) with e | ⟨m', hm', e⟩
              · exact br_t e (hh.1 e)
              · refine br_f (by rw [e]; exact za_n1 (by omega)) ⟨hv2, nm_r e (nm_r (nI_1 i) ?_)⟩
                exact hh.2 m' e hm'
            have gY : ∀ (post : Int32 → SY → Prop) (f : Nat), wY_loadStep_41 post (nI l) (nI n) lc nc mf fr f (nI (i + 1)) (nI (i + 1)) (nI y) (sn (8 * y + m)) (nI (i + 1)) tg ld so he sn fn hf ma mr fa fL fE fR rN rV (upd wx i (nI x)) (upd wm i (nI m)) (upd wy i (nI y)) (upd wk i (nI (8 * y + m))) ol os oF → wY_loadStep_41 post (nI l) (nI n) lc nc mf fr (f + 1) (nI i) (nI i) (nI x) (nI m) (nI i) tg ld so he sn fn hf ma mr fa fL fE fR rN rV wx wm wy wk ol os oF := by
              intro post f hh
              refine br_f b40 (br_f hmn (PY _ (br_t p0 ⟨hvy, nm_r (e' := -1) (by rw [hcy]; exact hl) (br_t rfl (nm_r (za_8 y m) ⟨i + 1, ?_⟩))⟩)))
              refine zq_y109 (ks := ks) (by omega) (by omega) kK (fun z => absurd z hin) (fun _ => ?_) i 0 (by omega) (fun q hq => by omega)
              refine br_t (nI_le (by omega) (by omega)) ⟨hv2, br_f (by rw [hc2]; exact hfl) (nm_r (nI_1 i) ⟨hv2, nm_r (e' := sn (8 * y + m)) (by rw [hc2]) ?_⟩)⟩
              exact zq_y165 (by omega) hh
            rcases hS (8 * y + m) (by omega) with e | ⟨m', hm', e⟩
            · refine Or.inr ⟨i + 1, i + 1, _, _, _, _, _, _, _, _, _, _, _, _, ⟨⟨by omega, by omega, by omega, by omega, zw_le hL hN S1⟩, S1, fun z => by omega⟩, x0 (fun z => (h0 z).1) (fun z => (h1 z).1), x0 (fun z => (h0 z).2) (fun z => (h1 z).2), fun post hp => gX post _ ⟨fun _ => hp, fun m' e' hm' => absurd (e.symm.trans e') (za_n1' (by omega))⟩, fun post hp => gY post _ ?_⟩
              rw [e]
              exact br_f (za_nge 40 (by omega)) (br_t rfl hp)
            · refine zw_mono (ih (i + 1) y m' _ _ _ _ _ _ _ _ _ _ _ _ (by omega) hy hm' (fun z => by omega) (fun _ => ⟨x0 (fun z => (h0 z).1) (fun z => (h1 z).1), x0 (fun z => (h0 z).2) (fun z => (h1 z).2)⟩) S1) (fun post hp => gX post _ ⟨fun e' => absurd (e'.symm.trans e) (za_n1' (by omega)), fun m'' e'' hm'' => ?_⟩) (fun post hp => gY post _ ?_)
              · have : m'' = m' := za_im (e''.symm.trans e) (by omega) (by omega)
                subst this
                exact hp
              · rw [e]; exact hp
      · -- the end of the path holds a class already
        refine Or.inr ⟨i + 1, i, zw_u xs i x, zw_u ms i m, zw_u ys i y, zw_u ks i c, upd wL i (nI x), upd wN i (nI m), upd wC i (nI c), upd wF i 0, upd wx i (nI x), upd wm i (nI m), upd wy i (nI y), upd wk i (nI c), ⟨⟨by omega, by omega, by omega, by omega, by omega⟩, zw_Sk hw, fun _ => ⟨zw_jn hx hm hy hpe, pk_us, ?_⟩⟩, x0 (fun z => (h0 z).1) (fun z => (h1 z).1), x0 (fun z => (h0 z).2) (fun z => (h1 z).2), fun post hp => ?_, fun post hp => ?_⟩
        · rw [zw_us, zw_us, zw_us]
          exact ⟨hl, hc32, hc8, hcN, hl2⟩
        · refine br_f b33 (PX _ (br_t p0 ⟨hv, nm_r (e' := nI c) (by rw [hc]; exact hl) (br_f (za_n1 (by omega)) ?_)⟩))
          exact zq_xap hi32 (Or.inl rfl) hp
        · refine br_f b40 (br_f hmn (PY _ (br_t p0 ⟨hvy, nm_r (e' := nI c) (by rw [hcy]; exact hl) (br_f (za_n1 (by omega)) ?_)⟩)))
          refine zq_y165 (by omega) ?_
          exact br_f (za_nge 40 (by omega)) (br_t rfl hp)
theorem zw_walk {l n : Nat} (hT : zp_T L N tg) (hD : zw_D L N ld) (hS : ∀ c, c < 32 → zb_N N (sn c)) (hL : L ≤ 4) (hN : N ≤ 8) (hl : l < L) (hn : n < N) :
    zw_out L N l n lc nc mf fr tg ld gp hf sn fn ma mr so he sl sg ss fL fE fR rN rV fa ol os oF (fun post => wpX_walk post (lc, nc, mf, wl, fr, tg, ld, gp, hf, sn, fn, ma, mr, so, he, sl, sg, ss, wL, wN, wC, wF, fL, fE, fR, rN, rV) (nI l) (nI n)) (fun post => ∃ f, wY_loadStep_41 post (nI l) (nI n) lc nc mf fr f 0 0 (nI l) (nI n) 0 tg ld so he sn fn hf ma mr fa fL fE fR rN rV wx wm wy wk ol os oF) :=
  zw_mono (zw_loop hT hD hS hL hN 33 0 l n (fun _ => 0) (fun _ => 0) (fun _ => 0) (fun _ => 0) wL wN wC wF wx wm wy wk rfl hl hn (fun _ => ⟨rfl, rfl⟩) (fun z => by omega) ⟨fun j hj => by omega, fun j hj => by omega, fun j hj => by omega⟩) (fun post hp => ⟨_, hp⟩) (fun post hp => ⟨_, hp⟩)
end ZW
end
section
/-! recording the walk, in lockstep -/
abbrev zr_J : Type := Int32 → (Nat → Int32) → (Nat → Int32) → (Nat → Int32) → (Nat → Int32) → (Nat → Int32) → (Nat → Int32) → (Nat → Int32) → (Nat → Int32) → (Nat → Int32) → (Nat → Int32) → (Nat → Int32) → (Nat → Int32) → (Nat → Int32) → (Nat → Int32) → (Nat → Int32) → (Nat → Int32) → (Nat → Int32) → (Nat → Int32) → (Nat → Int32) → (Nat → Int32) → (Nat → Int32) → (Nat → Int32) → Prop
section ZR
variable {lc nc mf wl fr : Int32} {tg ld gp hf sn fn ma mr so he sl sg ss wL wN wC wF fL fE fR rN rV fa wx wm wy wk ol os oF : Nat → Int32}
variable {L N : Nat}
theorem zr_ysame {post : Int32 → SY → Prop} {J : zr_J} {x1 x2 x3 x4 : Int32} {i m y kc : Nat} (hi : i < 40) (hm : m < 8) (hy : y < 4) (em : wm i = nI m) (ey : wy i = nI y) (ek : wk i = nI kc) (h : ld (8 * y + m) = nI kc)
    (ht : wY_loadStep_241 post J x1 x2 x3 x4 (nI i) lc nc mf fr 1 (nI y) (nI 4) tg ld so he sn fn hf ma mr fa fL fE fR rN rV wx wm wy wk ol os oF) : ∀ k j : Nat, j + k = 4 → wY_loadStep_241 post J x1 x2 x3 x4 (nI i) lc nc mf fr (k + 1) (nI y) (nI j) tg ld so he sn fn hf ma mr fa fL fE fR rN rV wx wm wy wk ol os oF := by
  intro k
  induction k with
  | zero =>
    intro j hj
    obtain rfl : j = 4 := by omega
    exact ht
  | succ k ih =>
    intro j hj
    have hv : vp_in (nI i) 40 := vp_in_nI hi (by omega)
    have hcl : (nI i).toNatClampNeg = i := nI_clamp (by omega)
    have e1 : nI y * 8 + wm (nI i).toNatClampNeg = nI (8 * y + m) := by rw [hcl, em, za_8y]
    refine br_f (za_nge 4 (by omega)) ⟨hv, hv, pk_in (8 * y + m) 32 (by omega) e1, nm_r (e' := ld) ?_ ⟨hv, br_t (by rw [hcl]; exact ey.symm) (nm_r (nI_1 j) (ih (j + 1) (by omega)))⟩⟩
    rw [e1, hcl, ek, nI_clamp (by omega)]
    exact zu_id h
theorem zr_path {ld0 : Nat → Int32} {m y kc i : Nat} (hL : L ≤ 4) (hm : m < 8) (hy : y < L) (hk : kc < 32) (hi : i < 40) (em : wm i = nI m) (ey : wy i = nI y) (ek : wk i = nI kc) (hen : ld0 (8 * y + m) = -1 ∨ ld0 (8 * y + m) = nI kc) :
    ∀ (t k j z : Nat) (ld : Nat → Int32), j + k = 4 → t < k → z < L → zp_P L ld0 tg m t z y → (∀ t' z', t' ≤ t → z' < L → zp_P L ld0 tg m t' z' y → ld (8 * z' + m) = ld0 (8 * z' + m)) →
    ∃ R : Nat → Int32, (∀ c, ¬ ld c = -1 → R c = ld c) ∧ (∀ c, R c = ld c ∨ (R c = nI kc ∧ ∃ t' z', z' < L ∧ c = 8 * z' + m ∧ zp_P L ld0 tg m t' z' y)) ∧ R (8 * z + m) = nI kc ∧ R (8 * y + m) = nI kc ∧
      (∀ post : SX → Prop, post (lc, nc, mf, wl, fr, tg, R, gp, hf, sn, fn, ma, mr, so, he, sl, sg, ss, wL, wN, wC, wF, fL, fE, fR, rN, rV) → wX_recordPath_6 post (nI m) (nI kc) lc nc mf wl fr (k + 1) (nI z) (nI j) tg ld gp hf sn fn ma mr so he sl sg ss wL wN wC wF fL fE fR rN rV) ∧
      (∀ (post : Int32 → SY → Prop) (J : zr_J) (x1 x2 x3 x4 : Int32), wY_loadStep_241 post J x1 x2 x3 x4 (nI i) lc nc mf fr 1 (nI y) (nI 4) tg R so he sn fn hf ma mr fa fL fE fR rN rV wx wm wy wk ol os oF → wY_loadStep_241 post J x1 x2 x3 x4 (nI i) lc nc mf fr (k + 1) (nI z) (nI j) tg ld so he sn fn hf ma mr fa fL fE fR rN rV wx wm wy wk ol os oF) := by
  have hvi : vp_in (nI i) 40 := vp_in_nI hi (by omega)
  have hcli : (nI i).toNatClampNeg = i := nI_clamp (by omega)
  have hkn : ¬ nI kc = -1 := za_n1 (by omega)
  intro t
  induction t with
  | zero =>
    intro k j z ld hj ht hz hp ha
    obtain ⟨rfl, hp2⟩ := hp
    have hag := ha 0 z (Nat.le_refl 0) hz ⟨rfl, hp2⟩
    obtain ⟨k, rfl⟩ : ∃ k', k = k' + 1 := ⟨k - 1, by omega⟩
    have hb : ¬ (4 : Int32) ≤ nI j := za_nge 4 (by omega)
    have hv : vp_in (nI (8 * z + m)) 32 := vp_in_nI (by omega) (by omega)
    have hc : (nI (8 * z + m)).toNatClampNeg = 8 * z + m := nI_clamp (by omega)
    rcases hen with hen | hen
    · have htg : tg (8 * z + m) = nI z := by
        rcases hp2 with a | a
        · exact absurd hen a
        · exact a
      have hld : ld (8 * z + m) = -1 := hag.trans hen
      refine ⟨upd ld (8 * z + m) (nI kc), fun c hcn => pk_un (fun e => hcn (by rw [e]; exact hld)), fun c => ?_, pk_us, pk_us, fun post h => ?_, fun post J x1 x2 x3 x4 h => ?_⟩
      · rcases zu_c (f := ld) (k := 8 * z + m) (j := c) (x := nI kc) with ⟨e, e2⟩ | ⟨_, e2⟩
        · exact Or.inr ⟨e2, 0, z, hz, e, rfl, hp2⟩
        · exact Or.inl e2
      · refine br_f hb (nm_r (za_8 z m) ⟨hv, br_t (by rw [hc]; exact hld) ⟨hv, nm_r (e' := upd ld (8 * z + m) (nI kc)) (by rw [hc]) ⟨hv, nm_r (e' := nI z) (by rw [hc]; exact htg) (nm_r (nI_1 j) ?_)⟩⟩⟩)
        by_cases h4 : j + 1 = 4
        · rw [h4]
          exact br_t (za_ge 4 (by omega) (by omega)) h
        · exact br_f (za_nge 4 (by omega)) (nm_r (za_8 z m) ⟨hv, br_f (by rw [hc, pk_us]; exact hkn) h⟩)
      · have e1 : nI z * 8 + wm (nI i).toNatClampNeg = nI (8 * z + m) := by rw [hcli, em, za_8y]
        refine br_f hb ⟨hvi, hvi, pk_in (8 * z + m) 32 (by omega) e1, nm_r (e' := upd ld (8 * z + m) (nI kc)) (by rw [e1, hcli, ek, hc]) ⟨hvi, br_t (by rw [hcli]; exact ey.symm) (nm_r (nI_1 j) ?_)⟩⟩
        exact zr_ysame hi hm (by omega) em ey ek pk_us h k (j + 1) (by omega)
    · have hld : ld (8 * z + m) = nI kc := hag.trans hen
      refine ⟨ld, fun _ _ => rfl, fun _ => Or.inl rfl, hld, hld, fun post h => ?_, fun post J x1 x2 x3 x4 h => ?_⟩
      · exact br_f hb (nm_r (za_8 z m) ⟨hv, br_f (by rw [hc, hld]; exact hkn) h⟩)
      · exact zr_ysame hi hm (by omega) em ey ek hld h (k + 1) j hj
  | succ t ih =>
    intro k j z ld hj ht hz hp ha
    have hp0 := hp
    obtain ⟨h1, h2, z', hz', hz2, hp'⟩ := hp
    have hld : ld (8 * z + m) = -1 := (ha (t + 1) z (Nat.le_refl _) hz hp0).trans h1
    have hzy : z ≠ y := by
      intro e
      subst e
      have := (zp_det hL _ _ _ _ _ hp0 (zp_end _ _ _ hp0)).1
      omega
    obtain ⟨k, rfl⟩ : ∃ k', k = k' + 1 := ⟨k - 1, by omega⟩
    obtain ⟨R, r1, r2, r3, r4, RX, RY⟩ := ih k (j + 1) z' (upd ld (8 * z + m) (nI kc)) (by omega) (by omega) hz' hp' (by
      intro t2 z2 ht2 hz2 hp2
      rw [pk_un ?_]
      · exact ha t2 z2 (by omega) hz2 hp2
      · intro e
        have : z2 = z := by omega
        subst this
        have := (zp_det hL _ _ _ _ _ hp0 hp2).1
        omega)
    have hb : ¬ (4 : Int32) ≤ nI j := za_nge 4 (by omega)
    have hv : vp_in (nI (8 * z + m)) 32 := vp_in_nI (by omega) (by omega)
    have hc : (nI (8 * z + m)).toNatClampNeg = 8 * z + m := nI_clamp (by omega)
    refine ⟨R, fun c hcn => ?_, fun c => ?_, ?_, r4, fun post h => ?_, fun post J x1 x2 x3 x4 h => ?_⟩
    · have hne : c ≠ 8 * z + m := fun e => hcn (by rw [e]; exact hld)
      have := r1 c (by rw [pk_un hne]; exact hcn)
      rw [this, pk_un hne]
    · rcases r2 c with e | e
      · rcases zu_c (f := ld) (k := 8 * z + m) (j := c) (x := nI kc) with ⟨e1, e2⟩ | ⟨_, e2⟩
        · exact Or.inr ⟨e.trans e2, t + 1, z, hz, e1, hp0⟩
        · exact Or.inl (e.trans e2)
      · exact Or.inr e
    · have := r1 (8 * z + m) (by rw [pk_us]; exact hkn)
      rw [this, pk_us]
    · refine br_f hb (nm_r (za_8 z m) ⟨hv, br_t (by rw [hc]; exact hld) ⟨hv, nm_r (e' := upd ld (8 * z + m) (nI kc)) (by rw [hc]) ⟨hv, nm_r (e' := nI z') (by rw [hc]; exact hz2) (nm_r (nI_1 j) ?_)⟩⟩⟩)
      exact RX post h
    · have e1 : nI z * 8 + wm (nI i).toNatClampNeg = nI (8 * z + m) := by rw [hcli, em, za_8y]
      have e3 : (nI z * 8 + wm (nI i).toNatClampNeg).toNatClampNeg = 8 * z + m := by rw [e1, hc]
      refine br_f hb ⟨hvi, hvi, pk_in (8 * z + m) 32 (by omega) e1, nm_r (e' := upd ld (8 * z + m) (nI kc)) (by rw [e3, hcli, ek]) ⟨hvi, br_f ?_ ⟨hvi, pk_in (8 * z + m) 32 (by omega) e1, nm_r (e' := nI z') (by rw [e3]; exact hz2) (nm_r (nI_1 j) ?_)⟩⟩⟩
      · rw [hcli, ey]
        exact fun e => hzy (za_im e (by omega) (by omega))
      · exact RY post J x1 x2 x3 x4 h
/-- what has been recorded before pair i -/
def zr_I (L : Nat) (ld0 so0 tg : Nat → Int32) (p d i : Nat) (xs ms ys ks : Nat → Nat) (ld so : Nat → Int32) : Prop :=
  (∀ j, i ≤ j → j < p → ∀ t z, z < L → zp_P L ld0 tg (ms j) t z (ys j) → ld (8 * z + ms j) = ld0 (8 * z + ms j)) ∧
  (∀ c, ¬ ld0 c = -1 → ld c = ld0 c) ∧
  (∀ c, ld c = ld0 c ∨ ∃ j, j < i ∧ ld c = nI (ks j) ∧ ∃ z, z < L ∧ c = 8 * z + ms j) ∧
  (∀ j, j < i → ld (8 * ys j + ms j) = nI (ks j) ∧ ld (8 * xs j + ms j) = nI (ks j)) ∧
  (∀ c, (∀ j, j < i → j < d → ¬ c = ks j) → so c = so0 c) ∧
  (∀ j, j < i → j < d → (j + 1 < p → so (ks j) = nI (ks (j + 1))) ∧ (¬ j + 1 < p → so (ks j) = -1))
end ZR
section ZRP
variable {L N p d : Nat} {ld0 so0 tg : Nat → Int32} {xs ms ys ks : Nat → Nat} {wL wN wC wF wx wm wy wk : Nat → Int32}
/-- pair i, to be defined or not -/
theorem zr_pair {i : Nat} (hL : L ≤ 4) (hN : N ≤ 8) (hO : zw_O L N ld0 tg p d xs ms ys ks wL wN wC wF wx wm wy wk) (hi : i < p) : zw_j L N ld0 tg xs ms ys ks wL wN wC wx wm wy wk i ∧ ks i < 32 ∧ ks i / 8 < L ∧ ks i % 8 < N ∧ (ld0 (8 * ys i + ms i) = -1 ∨ ld0 (8 * ys i + ms i) = nI (ks i)) ∧ ((i < d ∧ wF i = 1 ∧ ks i = 8 * ys i + ms i ∧ ld0 (ks i) = -1) ∨ (i = d ∧ wF i = 0 ∧ ld0 (ks i) = nI (ks i) ∧ ld0 (8 * ys i + ms i) = nI (ks i))) := by
  obtain ⟨⟨h1, h2, h3, h4, h5⟩, hS, hK⟩ := hO
  by_cases hid : i < d
  · obtain ⟨a1, a2, a3⟩ := hS.2.1 i hid
    obtain ⟨b1, b2, b3, _⟩ := zw_k32 hL hN hS hid
    exact ⟨hS.1 i hid, b1, b2, b3, Or.inl a2, Or.inl ⟨hid, a3, a1, by rw [a1]; exact a2⟩⟩
  · obtain rfl : i = d := by omega
    obtain ⟨k1, k2, k3, k4, k5, k6, k7⟩ := hK hi
    exact ⟨k1, k4, k5, k6, Or.inr k3, Or.inr ⟨rfl, k2, k7, k3⟩⟩
theorem zr_dist {i j : Nat} (hL : L ≤ 4) (hN : N ≤ 8) (hO : zw_O L N ld0 tg p d xs ms ys ks wL wN wC wF wx wm wy wk) (hij : i < j) (hj : j < p) (e1 : ms i = ms j) (e2 : ys i = ys j) : False := by
  have hd : i < d := by have := hO.1; omega
  obtain ⟨a1, a2, _⟩ := hO.2.1.2.1 i hd
  obtain ⟨_, hk, _, _, _, h⟩ := zr_pair hL hN hO hj
  rcases h with ⟨h1, _, h3, _⟩ | ⟨_, _, _, h4⟩
  · exact hO.2.1.2.2 j h1 i hij (by rw [a1, h3, e1, e2])
  · rw [e1, e2, h4] at a2
    exact za_n1 (by omega) a2
theorem zr_I0 : zr_I L ld0 so0 tg p d 0 xs ms ys ks ld0 so0 :=
  ⟨fun _ _ _ _ _ _ _ => rfl, fun _ _ => rfl, fun _ => Or.inl rfl, fun _ h => by omega, fun _ _ => rfl, fun _ h => by omega⟩
theorem zr_Is {i : Nat} {ld so R so1 : Nat → Int32} (hL : L ≤ 4) (hN : N ≤ 8) (hO : zw_O L N ld0 tg p d xs ms ys ks wL wN wC wF wx wm wy wk) (hi : i < p) (hI : zr_I L ld0 so0 tg p d i xs ms ys ks ld so)
    (r1 : ∀ c, ¬ ld c = -1 → R c = ld c) (r2 : ∀ c, R c = ld c ∨ (R c = nI (ks i) ∧ ∃ t' z', z' < L ∧ c = 8 * z' + ms i ∧ zp_P L ld0 tg (ms i) t' z' (ys i))) (r3 : R (8 * xs i + ms i) = nI (ks i)) (r4 : R (8 * ys i + ms i) = nI (ks i))
    (s0 : ¬ i < d → so1 = so) (s1 : i < d → so1 = upd so (ks i) (if i + 1 < p then nI (ks (i + 1)) else -1)) : zr_I L ld0 so0 tg p d (i + 1) xs ms ys ks R so1 := by
  obtain ⟨i1, i2, i3, i4, i5, i6⟩ := hI
  have hk : ∀ j, j < p → ¬ nI (ks j) = -1 := fun j hj => za_n1 (by have := (zr_pair hL hN hO hj).2.1; omega)
  refine ⟨?_, ?_, ?_, ?_, ?_, ?_⟩
  · intro j hij hj t z hz hp
    rcases r2 (8 * z + ms j) with e | ⟨_, t', z', hz', e, hp'⟩
    · rw [e]; exact i1 j (by omega) hj t z hz hp
    · exfalso
      have m1 := (zr_pair hL hN hO hi).1.2.1
      have m2 := (zr_pair hL hN hO hj).1.2.1
      have em : ms i = ms j := by omega
      have ez : z = z' := by omega
      subst ez
      rw [← em] at hp
      exact zr_dist hL hN hO (show i < j by omega) hj em (zp_det hL _ _ _ _ _ hp' hp).2
  · intro c hc
    have := i2 c hc
    rw [r1 c (by rw [this]; exact hc), this]
  · intro c
    rcases r2 c with e | ⟨e, t', z', hz', ec, _⟩
    · rcases i3 c with a | ⟨j, hj, a, b⟩
      · exact Or.inl (e.trans a)
      · exact Or.inr ⟨j, by omega, e.trans a, b⟩
    · exact Or.inr ⟨i, by omega, e, z', hz', ec⟩
  · refine lt_s (fun j hj => ?_) ⟨r4, r3⟩
    obtain ⟨a, b⟩ := i4 j hj
    have hn := hk j (by omega)
    exact ⟨by rw [r1 _ (by rw [a]; exact hn)]; exact a, by rw [r1 _ (by rw [b]; exact hn)]; exact b⟩
  · intro c hc
    by_cases hid : i < d
    · rw [s1 hid, pk_un (hc i (by omega) hid)]
      exact i5 c (fun j hj hjd => hc j (by omega) hjd)
    · rw [s0 hid]
      exact i5 c (fun j hj hjd => hc j (by omega) hjd)
  · intro j hj hjd
    by_cases hid : i < d
    · rw [s1 hid]
      by_cases e : j = i
      · subst e
        rw [pk_us]
        exact ⟨fun z => if_pos z, fun z => if_neg z⟩
      · rw [pk_un (hO.2.1.2.2 i hid j (by omega))]
        exact i6 j (by omega) hjd
    · rw [s0 hid]
      exact i6 j (by omega) hjd
end ZRP
end
section
section ZR2
variable {lc nc mf wl fr : Int32} {tg ld gp hf sn fn ma mr so he sl sg ss wL wN wC wF fL fE fR rN rV fa wx wm wy wk ol os oF : Nat → Int32}
variable {L N : Nat}
theorem zr_loop {l n p d : Nat} {ld0 so0 : Nat → Int32} {xs ms ys ks : Nat → Nat} (hL : L ≤ 4) (hN : N ≤ 8) (hO : zw_O L N ld0 tg p d xs ms ys ks wL wN wC wF wx wm wy wk) : ∀ (k i : Nat) (ld so : Nat → Int32), i + k = p → zr_I L ld0 so0 tg p d i xs ms ys ks ld so →
    ∃ ld' so' : Nat → Int32, zr_I L ld0 so0 tg p d p xs ms ys ks ld' so' ∧
    (∀ post : SX → Prop, post (lc, nc, mf, nI p, fr, tg, ld', gp, hf, sn, fn, ma, mr, so', he, sl, sg, ss, wL, wN, wC, wF, fL, fE, fR, rN, rV) → wX_recordWalk_2 post (k + 1) (nI i) lc nc mf (nI p) fr tg ld gp hf sn fn ma mr so he sl sg ss wL wN wC wF fL fE fR rN rV) ∧
    (∀ post : Int32 → SY → Prop, (∃ f, wY_loadStep_359 post (nI l) (nI n) (nI d) f 0 lc nc mf fr tg ld' so' he sn fn hf ma mr fa fL fE fR rN rV wx wm wy wk ol os oF) → wY_loadStep_223 post (nI l) (nI n) (nI p) (nI d) lc nc mf fr (k + 1) (nI i) tg ld so he sn fn hf ma mr fa fL fE fR rN rV wx wm wy wk ol os oF) := by
  have hpd := hO.1
  intro k
  induction k with
  | zero =>
    intro i ld so hi hI
    obtain rfl : i = p := by omega
    exact ⟨ld, so, hI, fun post h => br_t (nI_le (by omega) (by omega)) h, fun post h => br_t (nI_le (by omega) (by omega)) h⟩
  | succ k ih =>
    intro i ld so hi hI
    have hip : i < p := by omega
    obtain ⟨hj, hk32, _, _, hend, hfr⟩ := zr_pair hL hN hO hip
    obtain ⟨hxs, hms, hys, ⟨t, ht, hpt⟩, eL, eN, eC, ex, em, ey, ek⟩ := hj
    obtain ⟨R, r1, r2, r3, r4, RX, RY⟩ := zr_path (lc := lc) (nc := nc) (mf := mf) (wl := nI p) (fr := fr) (tg := tg) (gp := gp) (hf := hf) (sn := sn) (fn := fn) (ma := ma) (mr := mr) (so := so) (he := he) (sl := sl) (sg := sg) (ss := ss) (wL := wL) (wN := wN) (wC := wC) (wF := wF) (fL := fL) (fE := fE) (fR := fR) (rN := rN) (rV := rV) (fa := fa) (wx := wx) (wm := wm) (wy := wy) (wk := wk) (ol := ol) (os := os) (oF := oF) (i := i) hL (show ms i < 8 by omega) hys hk32 (by omega) em ey ek hend t 4 0 (xs i) ld rfl (by omega) hxs hpt (fun t' z' _ hz' hp' => hI.1 i (Nat.le_refl i) hip t' z' hz' hp')
    have hv : vp_in (nI i) 33 := vp_in_nI (by omega) (by omega)
    have hvy : vp_in (nI i) 40 := vp_in_nI (by omega) (by omega)
    have hcl : (nI i).toNatClampNeg = i := nI_clamp (by omega)
    have bX : ¬ nI p ≤ nI i := nI_ge hip (by omega)
    have eC' : wC (nI i).toNatClampNeg = nI (ks i) := by rw [hcl]; exact eC
    have ek' : wk (nI i).toNatClampNeg = nI (ks i) := by rw [hcl]; exact ek
    have hck : (nI (ks i)).toNatClampNeg = ks i := nI_clamp (by omega)
    have hvk : vp_in (nI (ks i)) 32 := vp_in_nI hk32 (by omega)
    -- the X side up to the superclass's store, the Y side likewise
    have gX : ∀ (post : SX → Prop), (wF i = 0 → wX_recordWalk_2 post (k + 1) (nI (i + 1)) lc nc mf (nI p) fr tg R gp hf sn fn ma mr so he sl sg ss wL wN wC wF fL fE fR rN rV) → (¬ wF i = 0 → (p ≤ i + 1 → wX_recordWalk_2 post (k + 1) (nI (i + 1)) lc nc mf (nI p) fr tg R gp hf sn fn ma mr (upd so (ks i) (-1)) he sl sg ss wL wN wC wF fL fE fR rN rV) ∧ (i + 1 < p → wX_recordWalk_2 post (k + 1) (nI (i + 1)) lc nc mf (nI p) fr tg R gp hf sn fn ma mr (upd so (ks i) (nI (ks (i + 1)))) he sl sg ss wL wN wC wF fL fE fR rN rV)) → wX_recordWalk_2 post (k + 1 + 1) (nI i) lc nc mf (nI p) fr tg ld gp hf sn fn ma mr so he sl sg ss wL wN wC wF fL fE fR rN rV := by
      intro post h0 h1
      refine br_f bX ⟨hv, hv, hv, ?_⟩
      rw [hcl, eL, eN, eC]
      refine ⟨5, RX _ ⟨hv, ?_⟩⟩
      refine br_c (fun z => nm_r (nI_1 i) (h0 z)) (fun z => ⟨hv, ?_⟩)
      rw [nI_1]
      by_cases hp1 : i + 1 < p
      · refine br_f (nI_ge hp1 (by omega)) ⟨vp_in_nI (by omega) (by omega), ?_⟩
        rw [eC]
        refine ⟨hvk, nm_r (e' := upd so (ks i) (nI (ks (i + 1)))) ?_ (nm_e ?_)⟩
        · rw [hck, nI_clamp (by omega), ((zr_pair hL hN hO hp1).1).2.2.2.2.2.2.1]
        · exact (h1 z).2 hp1
      · refine br_t (nI_le (by omega) (by omega)) ?_
        rw [eC]
        refine ⟨hvk, nm_r (e' := upd so (ks i) (-1)) (by rw [hck]) (nm_e ?_)⟩
        exact (h1 z).1 (by omega)
    have gY : ∀ (post : Int32 → SY → Prop), (¬ i < d → wY_loadStep_223 post (nI l) (nI n) (nI p) (nI d) lc nc mf fr (k + 1) (nI (i + 1)) tg R so he sn fn hf ma mr fa fL fE fR rN rV wx wm wy wk ol os oF) → (i < d → (p ≤ i + 1 → wY_loadStep_223 post (nI l) (nI n) (nI p) (nI d) lc nc mf fr (k + 1) (nI (i + 1)) tg R (upd so (ks i) (-1)) he sn fn hf ma mr fa fL fE fR rN rV wx wm wy wk ol os oF) ∧ (i + 1 < p → wY_loadStep_223 post (nI l) (nI n) (nI p) (nI d) lc nc mf fr (k + 1) (nI (i + 1)) tg R (upd so (ks i) (nI (ks (i + 1)))) he sn fn hf ma mr fa fL fE fR rN rV wx wm wy wk ol os oF)) → wY_loadStep_223 post (nI l) (nI n) (nI p) (nI d) lc nc mf fr (k + 1 + 1) (nI i) tg ld so he sn fn hf ma mr fa fL fE fR rN rV wx wm wy wk ol os oF := by
      intro post h0 h1
      refine br_f bX ⟨hvy, nm_r (e' := nI (xs i)) (by rw [hcl]; exact ex) ⟨5, RY _ _ _ _ _ _ ?_⟩⟩
      refine br_t (za_ge 4 (by omega) (by omega)) ?_
      by_cases hid : i < d
      · refine br_f (nI_ge hid (by omega)) ⟨hvy, ?_⟩
        rw [nI_1]
        by_cases hp1 : i + 1 < p
        · refine br_f (nI_ge hp1 (by omega)) ⟨vp_in_nI (by omega) (by omega), ?_⟩
          rw [ek']
          refine ⟨hvk, nm_r (e' := upd so (ks i) (nI (ks (i + 1)))) ?_ (nm_e ?_)⟩
          · rw [hck, nI_clamp (by omega), ((zr_pair hL hN hO hp1).1).2.2.2.2.2.2.2.2.2.2]
          · exact (h1 hid).2 hp1
        · refine br_t (nI_le (by omega) (by omega)) ?_
          rw [ek']
          refine ⟨hvk, nm_r (e' := upd so (ks i) (-1)) (by rw [hck]) (nm_e ?_)⟩
          exact (h1 hid).1 (by omega)
      · exact br_t (nI_le (by omega) (by omega)) (nm_r (nI_1 i) (h0 hid))
    rcases hfr with ⟨hid, hF, _⟩ | ⟨hid, hF, _⟩
    · have hF0 : ¬ wF i = 0 := by rw [hF]; decide
      by_cases hp1 : i + 1 < p
      · obtain ⟨ld', so', I', HX, HY⟩ := ih (i + 1) R (upd so (ks i) (nI (ks (i + 1)))) (by omega) (zr_Is hL hN hO hip hI r1 r2 r3 r4 (fun z => absurd hid z) (fun _ => by rw [if_pos hp1]))
        exact ⟨ld', so', I', fun post h => gX post (fun z => absurd z hF0) (fun _ => ⟨fun z => by omega, fun _ => HX post h⟩), fun post h => gY post (fun z => absurd hid z) (fun _ => ⟨fun z => by omega, fun _ => HY post h⟩)⟩
      · obtain ⟨ld', so', I', HX, HY⟩ := ih (i + 1) R (upd so (ks i) (-1)) (by omega) (zr_Is hL hN hO hip hI r1 r2 r3 r4 (fun z => absurd hid z) (fun _ => by rw [if_neg hp1]))
        exact ⟨ld', so', I', fun post h => gX post (fun z => absurd z hF0) (fun _ => ⟨fun _ => HX post h, fun z => absurd z hp1⟩), fun post h => gY post (fun z => absurd hid z) (fun _ => ⟨fun _ => HY post h, fun z => absurd z hp1⟩)⟩
    · have hnd : ¬ i < d := by omega
      obtain ⟨ld', so', I', HX, HY⟩ := ih (i + 1) R so (by omega) (zr_Is hL hN hO hip hI r1 r2 r3 r4 (fun _ => rfl) (fun z => absurd z hnd))
      exact ⟨ld', so', I', fun post h => gX post (fun _ => HX post h) (fun z => absurd hF z), fun post h => gY post (fun _ => HY post h) (fun z => absurd z hnd)⟩
end ZR2
/-! the invariants after a walk is recorded -/
def zo_O (L N : Nat) (ld so : Nat → Int32) : Prop := ∀ i, i < 32 → so i = -1 ∨ (ld i = nI i ∧ ∃ c, c < 32 ∧ c / 8 < L ∧ c % 8 < N ∧ so i = nI c ∧ ld c = nI c)
def zo_A (L N : Nat) (so : Nat → Int32) : Prop := ∀ c, c < 32 → c / 8 < L → c % 8 < N → ∃ n, ze_U L N so n (nI c)
section ZO
variable {L N p d : Nat} {ld0 so0 tg ld so : Nat → Int32} {xs ms ys ks : Nat → Nat} {wL wN wC wF wx wm wy wk : Nat → Int32}
theorem zo_self {j : Nat} (hL : L ≤ 4) (hN : N ≤ 8) (hO : zw_O L N ld0 tg p d xs ms ys ks wL wN wC wF wx wm wy wk) (hI : zr_I L ld0 so0 tg p d p xs ms ys ks ld so) (hj : j < p) : ld (ks j) = nI (ks j) := by
  obtain ⟨_, hk, _, _, _, h⟩ := zr_pair hL hN hO hj
  rcases h with ⟨_, _, e, _⟩ | ⟨_, _, e, _⟩
  · have := (hI.2.2.2.1 j hj).1
    rw [← e] at this
    exact this
  · rw [hI.2.1 (ks j) (by rw [e]; exact za_n1 (by omega)), e]
theorem zo_D (hL : L ≤ 4) (hN : N ≤ 8) (hD : zw_D L N ld0) (hO : zw_O L N ld0 tg p d xs ms ys ks wL wN wC wF wx wm wy wk) (hI : zr_I L ld0 so0 tg p d p xs ms ys ks ld so) : zw_D L N ld := by
  intro a ha b hb
  rcases hI.2.2.1 (8 * a + b) with e | ⟨j, hj, e, z, hz, ec⟩
  · rcases hD a ha b hb with h | ⟨h1, h2, c, c1, c2, c3, c4, c5⟩
    · exact Or.inl (e.trans h)
    · exact Or.inr ⟨h1, h2, c, c1, c2, c3, e.trans c4, by rw [hI.2.1 c (by rw [c5]; exact za_n1 (by omega)), c5]⟩
  · obtain ⟨hjj, k1, k2, k3, _⟩ := zr_pair hL hN hO hj
    have hm := hjj.2.1
    exact Or.inr ⟨by omega, by omega, ks j, k1, k2, k3, e, zo_self hL hN hO hI hj⟩
theorem zo_On (hL : L ≤ 4) (hN : N ≤ 8) (hOO : zo_O L N ld0 so0) (hO : zw_O L N ld0 tg p d xs ms ys ks wL wN wC wF wx wm wy wk) (hI : zr_I L ld0 so0 tg p d p xs ms ys ks ld so) : zo_O L N ld so := by
  have hpd := hO.1
  intro i hi
  by_cases h : ∃ j, j < d ∧ i = ks j
  · obtain ⟨j, hj, rfl⟩ := h
    obtain ⟨a, b⟩ := hI.2.2.2.2.2 j (by omega) hj
    by_cases hp : j + 1 < p
    · obtain ⟨_, k1, k2, k3, _⟩ := zr_pair hL hN hO hp
      exact Or.inr ⟨zo_self hL hN hO hI (by omega), ks (j + 1), k1, k2, k3, a hp, zo_self hL hN hO hI hp⟩
    · exact Or.inl (b hp)
  · have e := hI.2.2.2.2.1 i (fun j _ hjd z => h ⟨j, hjd, z⟩)
    rcases hOO i hi with a | ⟨a, c, c1, c2, c3, c4, c5⟩
    · exact Or.inl (e.trans a)
    · exact Or.inr ⟨by rw [hI.2.1 i (by rw [a]; exact za_n1 (by omega)), a], c, c1, c2, c3, e.trans c4, by rw [hI.2.1 c (by rw [c5]; exact za_n1 (by omega)), c5]⟩
theorem zo_old (hL : L ≤ 4) (hN : N ≤ 8) (hOO : zo_O L N ld0 so0) (hO : zw_O L N ld0 tg p d xs ms ys ks wL wN wC wF wx wm wy wk) (hI : zr_I L ld0 so0 tg p d p xs ms ys ks ld so) : ∀ (n : Nat) (q : Int32), ze_U L N so0 n q → (∀ c, c < 32 → q = nI c → ∀ j, j < d → ¬ c = ks j) → ze_U L N so n q := by
  have hpd := hO.1
  intro n
  induction n with
  | zero => intro q h _; exact h
  | succ n ih =>
    intro q h hq
    obtain ⟨c, h1, h2, h3, h4, h5⟩ := h
    have hf := hq c h1 h4
    refine ⟨c, h1, h2, h3, h4, ?_⟩
    rw [hI.2.2.2.2.1 c (fun j _ hjd => hf j hjd)]
    refine ih _ h5 (fun c' hc' e' j hj e2 => ?_)
    rcases hOO c h1 with a | ⟨_, c'', c1, _, _, c4, c5⟩
    · rw [a] at e'
      exact za_n1' (by omega) e'
    · have : c'' = c' := za_im (c4.symm.trans e') (by omega) (by omega)
      subst this
      subst e2
      obtain ⟨_, _, _, _, _, hx⟩ := zr_pair hL hN hO (show j < p by omega)
      rcases hx with ⟨_, _, _, hx⟩ | ⟨hx, _⟩
      · rw [hx] at c5
        exact za_n1' (by omega) c5
      · omega
theorem zo_new (hL : L ≤ 4) (hN : N ≤ 8) (hOO : zo_O L N ld0 so0) (hA : zo_A L N so0) (hO : zw_O L N ld0 tg p d xs ms ys ks wL wN wC wF wx wm wy wk) (hI : zr_I L ld0 so0 tg p d p xs ms ys ks ld so) : ∀ k j : Nat, j + k = d → j < p → ∃ n, ze_U L N so n (nI (ks j)) := by
  have hpd := hO.1
  intro k
  induction k with
  | zero =>
    intro j hj hjp
    obtain ⟨_, k1, k2, k3, _, h⟩ := zr_pair hL hN hO hjp
    obtain ⟨n, hn⟩ := hA (ks j) k1 k2 k3
    refine ⟨n, zo_old hL hN hOO hO hI n _ hn (fun c hc e q hq e2 => ?_)⟩
    have ec : ks j = c := za_im e (by omega) (by omega)
    rcases h with ⟨h, _⟩ | ⟨_, _, h, _⟩
    · omega
    · obtain ⟨_, _, _, _, _, h2⟩ := zr_pair hL hN hO (show q < p by omega)
      rcases h2 with ⟨_, _, _, h2⟩ | ⟨h2, _⟩
      · rw [← e2, ← ec, h] at h2
        exact za_n1 (by omega) h2
      · omega
  | succ k ih =>
    intro j hj hjp
    obtain ⟨_, k1, k2, k3, _, _⟩ := zr_pair hL hN hO hjp
    obtain ⟨a, b⟩ := hI.2.2.2.2.2 j hjp (by omega)
    by_cases hp : j + 1 < p
    · obtain ⟨n, hn⟩ := ih (j + 1) (by omega) hp
      exact ⟨n + 1, ks j, k1, k2, k3, rfl, by rw [a hp]; exact hn⟩
    · exact ⟨1, ks j, k1, k2, k3, rfl, b hp⟩
theorem zo_An (hL : L ≤ 4) (hN : N ≤ 8) (hOO : zo_O L N ld0 so0) (hA : zo_A L N so0) (hO : zw_O L N ld0 tg p d xs ms ys ks wL wN wC wF wx wm wy wk) (hI : zr_I L ld0 so0 tg p d p xs ms ys ks ld so) : zo_A L N so := by
  have hpd := hO.1
  intro c h1 h2 h3
  by_cases h : ∃ j, j < d ∧ c = ks j
  · obtain ⟨j, hj, rfl⟩ := h
    exact zo_new hL hN hOO hA hO hI (d - j) j (by omega) (by omega)
  · obtain ⟨n, hn⟩ := hA c h1 h2 h3
    refine ⟨n, zo_old hL hN hOO hO hI n _ hn (fun c' hc' e j hj e2 => ?_)⟩
    have : c = c' := za_im e (by omega) (by omega)
    exact h ⟨j, hj, this.trans e2⟩
theorem zo_far (hL : L ≤ 4) (hN : N ≤ 8) (hO : zw_O L N ld0 tg p d xs ms ys ks wL wN wC wF wx wm wy wk) (hI : zr_I L ld0 so0 tg p d p xs ms ys ks ld so) : (∀ j, 32 ≤ j → ld j = ld0 j) ∧ (∀ j, 32 ≤ j → so j = so0 j) := by
  have hpd := hO.1
  constructor
  · intro c hc
    rcases hI.2.2.1 c with e | ⟨j, hj, _, z, hz, ec⟩
    · exact e
    · have := (zr_pair hL hN hO hj).1.2.1
      omega
  · intro c hc
    refine hI.2.2.2.2.1 c (fun j _ hjd e => ?_)
    have := (zr_pair hL hN hO (show j < p by omega)).2.1
    omega
end ZO
end
section
/-! a load, in lockstep -/
def zl_K (L N : Nat) (ld so gp fa : Nat → Int32) : Prop := zw_D L N ld ∧ zo_O L N ld so ∧ zo_A L N so ∧ zg_G gp fa
def zl_T (L N : Nat) (tg sn ma mr : Nat → Int32) : Prop := L ≤ 4 ∧ N ≤ 8 ∧ zp_T L N tg ∧ (∀ c, c < 32 → zb_N N (sn c)) ∧ ze_M N ma mr
def zl_F (ld so gp fa ld' so' gp' fa' : Nat → Int32) : Prop := (∀ j, 32 ≤ j → ld' j = ld j) ∧ (∀ j, 32 ≤ j → so' j = so j) ∧ (∀ j, 32 ≤ j → gp' j = gp j) ∧ (∀ j, 128 ≤ j → fa' j = fa j)
theorem zl_F0 {ld so gp fa : Nat → Int32} : zl_F ld so gp fa ld so gp fa := ⟨fun _ _ => rfl, fun _ _ => rfl, fun _ _ => rfl, fun _ _ => rfl⟩
theorem zl_Ft {ld so gp fa ld1 so1 gp1 fa1 ld2 so2 gp2 fa2 : Nat → Int32} (h : zl_F ld so gp fa ld1 so1 gp1 fa1) (h' : zl_F ld1 so1 gp1 fa1 ld2 so2 gp2 fa2) : zl_F ld so gp fa ld2 so2 gp2 fa2 :=
  ⟨fun j hj => (h'.1 j hj).trans (h.1 j hj), fun j hj => (h'.2.1 j hj).trans (h.2.1 j hj), fun j hj => (h'.2.2.1 j hj).trans (h.2.2.1 j hj), fun j hj => (h'.2.2.2 j hj).trans (h.2.2.2 j hj)⟩
/-- a refusal of a load -/
def zl_n (r : Int32) : Prop := r = -4 ∨ r = -5 ∨ r = -6 ∨ r = -7
theorem zl_n0 {r : Int32} (h : zl_n r) : ¬ r = 0 := by rcases h with rfl | rfl | rfl | rfl <;> decide
theorem zl_nn {r : Int32} (h : zl_n r) : ¬ 0 ≤ r := by rcases h with rfl | rfl | rfl | rfl <;> decide
theorem zl_n2 {r : Int32} (h : zl_n r) : ¬ (-2) < r := by rcases h with rfl | rfl | rfl | rfl <;> decide
theorem zl_in {L N : Nat} {ld : Nat → Int32} (h : zw_D L N ld) : zd_in L N ld := by
  intro l hl n hn e
  rcases h l hl n hn with a | ⟨a, b, _⟩
  · exact absurd a e
  · exact ⟨a, b⟩
section ZL
variable {lc nc mf wl fr : Int32} {tg ld gp hf sn fn ma mr so he sl sg ss wL wN wC wF fL fE fR rN rV fa wx wm wy wk ol os oF : Nat → Int32}
variable {L N : Nat}
theorem zl_load {l n : Nat} (hT : zl_T L N tg sn ma mr) (hK : zl_K L N ld so gp fa) (hl : l < L) (hn : n < N) :
    ∃ (r wl' : Int32) (ld' so' gp' fa' wL' wN' wC' wF' wx' wm' wy' wk' : Nat → Int32), zl_K L N ld' so' gp' fa' ∧ (zl_n r ∨ zb_C L N r) ∧ zl_F ld so gp fa ld' so' gp' fa' ∧
    (∀ post : Int32 → SX → Prop, post r (nI L, nI N, mf, wl', fr, tg, ld', gp', hf, sn, fn, ma, mr, so', he, sl, sg, ss, wL', wN', wC', wF', fL, fE, fR, rN, rV) → wpX_loadClass post (nI L, nI N, mf, wl, fr, tg, ld, gp, hf, sn, fn, ma, mr, so, he, sl, sg, ss, wL, wN, wC, wF, fL, fE, fR, rN, rV) (nI l) (nI n)) ∧
    (∀ post : Int32 → SY → Prop, post r (nI L, nI N, mf, fr, tg, ld', so', he, sn, fn, hf, ma, mr, fa', fL, fE, fR, rN, rV, wx', wm', wy', wk', ol, os, oF) → wpY_loadStep post (nI L, nI N, mf, fr, tg, ld, so, he, sn, fn, hf, ma, mr, fa, fL, fE, fR, rN, rV, wx, wm, wy, wk, ol, os, oF) (nI l) (nI n)) := by
  obtain ⟨hL, hN, hTg, hS, hM⟩ := hT
  have hv : vp_in (nI (8 * l + n)) 32 := vp_in_nI (by omega) (by omega)
  have hc : (nI (8 * l + n)).toNatClampNeg = 8 * l + n := nI_clamp (by omega)
  have hvy : vp_in (nI l * 8 + nI n) 32 := za_i8y (by omega) (by omega)
  have hcy : (nI l * 8 + nI n).toNatClampNeg = 8 * l + n := za_c8y (by omega)
  have hK0 := hK
  obtain ⟨hD, hOO, hA, hG⟩ := hK
  rcases hD l (by omega) n (by omega) with hld | ⟨_, _, c, hc32, hc8, hcN, hld, _⟩
  · rcases zw_walk (lc := nI L) (nc := nI N) (mf := mf) (wl := wl) (fr := fr) (tg := tg) (ld := ld) (gp := gp) (hf := hf) (sn := sn) (fn := fn) (ma := ma) (mr := mr) (so := so) (he := he) (sl := sl) (sg := sg) (ss := ss) (wL := wL) (wN := wN) (wC := wC) (wF := wF) (fL := fL) (fE := fE) (fR := fR) (rN := rN) (rV := rV) (fa := fa) (wx := wx) (wm := wm) (wy := wy) (wk := wk) (ol := ol) (os := os) (oF := oF) hTg hD hS hL hN hl hn with ⟨r, wl', wL', wN', wC', wF', wx', wm', wy', wk', hr, AX, AY⟩ | ⟨p, d, xs, ms, ys, ks, wL', wN', wC', wF', wx', wm', wy', wk', hO, hx0, hm0, BX, BY⟩
    · have hrn : zl_n r := by
        rcases hr with rfl | rfl | rfl
        · exact Or.inl rfl
        · exact Or.inr (Or.inl rfl)
        · exact Or.inr (Or.inr (Or.inl rfl))
      refine ⟨r, wl', ld, so, gp, fa, wL', wN', wC', wF', wx', wm', wy', wk', hK0, Or.inl hrn, zl_F0, fun post hp => ?_, fun post hp => ?_⟩
      · exact nm_r (za_8 l n) ⟨hv, br_t (by rw [hc]; exact hld) (AX _ (br_f (zl_n0 hrn) hp))⟩
      · exact ⟨hvy, br_t (by rw [hcy]; exact hld) (AY post hp)⟩
    · obtain ⟨ld1, so1, hI, RX, RY⟩ := zr_loop (lc := nI L) (nc := nI N) (mf := mf) (fr := fr) (tg := tg) (gp := gp) (hf := hf) (sn := sn) (fn := fn) (ma := ma) (mr := mr) (he := he) (sl := sl) (sg := sg) (ss := ss) (wL := wL') (wN := wN') (wC := wC') (wF := wF') (fL := fL) (fE := fE) (fR := fR) (rN := rN) (rV := rV) (fa := fa) (wx := wx') (wm := wm') (wy := wy') (wk := wk') (ol := ol) (os := os) (oF := oF) (l := l) (n := n) hL hN hO p 0 ld so (by omega) zr_I0
      have hD1 := zo_D hL hN hD hO hI
      have hO1 := zo_On hL hN hOO hO hI
      have hA1 := zo_An hL hN hOO hA hO hI
      have hfar := zo_far hL hN hO hI
      have hpd := hO.1
      obtain ⟨gp1, fa1, hG1, f1, f2, TX, TY⟩ := zf_loop (lc := nI L) (nc := nI N) (mf := mf) (fr := fr) (tg := tg) (ld := ld1) (hf := hf) (sn := sn) (fn := fn) (ma := ma) (mr := mr) (so := so1) (he := he) (sl := sl) (sg := sg) (ss := ss) (wL := wL') (wN := wN') (wC := wC') (wF := wF') (fL := fL) (fE := fE) (fR := fR) (rN := rN) (rV := rV) (wx := wx') (wm := wm') (wy := wy') (wk := wk') (ol := ol) (os := os) (oF := oF) (L := L) (N := N) (p := p) (d := d) (ks := ks) hN hM (by omega) (by omega) (by omega) (by omega) (by
        intro j hj
        obtain ⟨hjj, k1, k2, k3, _, hfr⟩ := zr_pair hL hN hO (show j < p by omega)
        refine ⟨k1, hjj.2.2.2.2.2.2.1, hjj.2.2.2.2.2.2.2.2.2.2, ?_, ?_⟩
        · rcases hfr with ⟨_, h, _⟩ | ⟨h, _⟩
          · exact h
          · omega
        · obtain ⟨m, hm⟩ := hA1 (ks j) k1 k2 k3
          cases m with
          | zero => exact absurd hm (za_n1 (by omega))
          | succ m =>
            obtain ⟨c, hc, _, _, e, hr⟩ := hm
            have : ks j = c := za_im e (by omega) (by omega)
            subst this
            exact ⟨m, hr⟩) (fun hdp => (hO.2.2 hdp).2.1) d 0 gp fa (by omega) hG
      have h0 : ld1 (8 * l + n) = nI (ks 0) := by
        have := (hI.2.2.2.1 0 (by omega)).2
        rw [hx0, hm0] at this
        exact this
      obtain ⟨_, k1, k2, k3, _⟩ := zr_pair hL hN hO (show 0 < p by omega)
      have gX : ∀ post : Int32 → SX → Prop, (zd_K gp1 ld1 → post (-7) (nI L, nI N, mf, nI p, fr, tg, ld1, gp1, hf, sn, fn, ma, mr, so1, he, sl, sg, ss, wL', wN', wC', wF', fL, fE, fR, rN, rV)) → (¬ zd_K gp1 ld1 → post (nI (ks 0)) (nI L, nI N, mf, nI p, fr, tg, ld1, gp1, hf, sn, fn, ma, mr, so1, he, sl, sg, ss, wL', wN', wC', wF', fL, fE, fR, rN, rV)) → wpX_loadClass post (nI L, nI N, mf, wl, fr, tg, ld, gp, hf, sn, fn, ma, mr, so, he, sl, sg, ss, wL, wN, wC, wF, fL, fE, fR, rN, rV) (nI l) (nI n) := by
        intro post h7 hp
        refine nm_r (za_8 l n) ⟨hv, br_t (by rw [hc]; exact hld) (BX _ (br_t rfl ⟨_, RX _ ⟨_, TX _ ?_⟩⟩))⟩
        refine zd_xcl (fun hk => br_f za_n10 (h7 hk)) (fun hk => br_t rfl ⟨hv, ?_⟩)
        rw [hc, h0]
        exact hp hk
      have gY : ∀ post : Int32 → SY → Prop, (zd_K gp1 ld1 → post (-7) (nI L, nI N, mf, fr, tg, ld1, so1, he, sn, fn, hf, ma, mr, fa1, fL, fE, fR, rN, rV, wx', wm', wy', wk', ol, os, oF)) → (¬ zd_K gp1 ld1 → post (nI (ks 0)) (nI L, nI N, mf, fr, tg, ld1, so1, he, sn, fn, hf, ma, mr, fa1, fL, fE, fR, rN, rV, wx', wm', wy', wk', ol, os, oF)) → wpY_loadStep post (nI L, nI N, mf, fr, tg, ld, so, he, sn, fn, hf, ma, mr, fa, fL, fE, fR, rN, rV, wx, wm, wy, wk, ol, os, oF) (nI l) (nI n) := by
        intro post h7 hp
        refine ⟨hvy, br_t (by rw [hcy]; exact hld) (BY post ⟨_, RY post ⟨_, TY post _ _ (br_t (nI_le (Nat.le_refl d) (by omega)) ?_)⟩⟩)⟩
        refine zd_ycl hG1 (zl_in hD1) hL hN (fun hk => br_f za_n10 (h7 hk)) (fun hk => br_t rfl ⟨hvy, ?_⟩)
        rw [hcy, h0]
        exact hp hk
      have hF : zl_F ld so gp fa ld1 so1 gp1 fa1 := ⟨hfar.1, hfar.2, f1, f2⟩
      by_cases hk : zd_K gp1 ld1
      · exact ⟨-7, nI p, ld1, so1, gp1, fa1, wL', wN', wC', wF', wx', wm', wy', wk', ⟨hD1, hO1, hA1, hG1⟩, Or.inl (Or.inr (Or.inr (Or.inr rfl))), hF, fun post hp => gX post (fun _ => hp) (fun z => absurd hk z), fun post hp => gY post (fun _ => hp) (fun z => absurd hk z)⟩
      · exact ⟨nI (ks 0), nI p, ld1, so1, gp1, fa1, wL', wN', wC', wF', wx', wm', wy', wk', ⟨hD1, hO1, hA1, hG1⟩, Or.inr (zb_Ci k1 k2 k3), hF, fun post hp => gX post (fun z => absurd z hk) (fun _ => hp), fun post hp => gY post (fun z => absurd z hk) (fun _ => hp)⟩
  · refine ⟨nI c, wl, ld, so, gp, fa, wL, wN, wC, wF, wx, wm, wy, wk, hK0, Or.inr (zb_Ci hc32 hc8 hcN), zl_F0, fun post hp => ?_, fun post hp => ?_⟩
    · refine nm_r (za_8 l n) ⟨hv, br_f (by rw [hc, hld]; exact za_n1 (by omega)) ⟨hv, ?_⟩⟩
      rw [hc, hld]
      exact hp
    · refine ⟨hvy, br_f (by rw [hcy, hld]; exact za_n1 (by omega)) ⟨hvy, ?_⟩⟩
      rw [hcy, hld]
      exact hp
end ZL
end
section
/-! the relation -/
def zi_f (L F : Nat) (fL fE fR : Nat → Int32) : Prop := ∀ t, t < F → zb_L L (fL t) ∧ (1 ≤ t → zb_L 64 (fE t) ∧ zb_L 4 (fR t))
def zi_r (L N F : Nat) (rN rV : Nat → Int32) : Prop := ∀ i, i < 4 * F → zb_N N (rN i) ∧ zb_V L N (rV i) ∧ (rN i = -1 → rV i = -1)
def zi_I (L N M F : Nat) (tg ld gp sn fn ma mr so he fa fL fE fR rN rV : Nat → Int32) : Prop :=
  zl_T L N tg sn ma mr ∧ zl_K L N ld so gp fa ∧ (1 ≤ M ∧ M ≤ 8 ∧ F ≤ M) ∧ (∀ c, c < 32 → zb_N N (fn c)) ∧ (∀ c, c < 32 → zb_V L N (he c)) ∧ zi_f L F fL fE fR ∧ zi_r L N F rN rV
/-- the two states are of one form; said by what follows for every property of such pairs -/
def i_Rel (_ : Nat) (u : SX) (v : SY) : Prop := ∀ P : SX → SY → Prop, (∀ (L N M F : Nat) (wl : Int32) (tg ld gp hf sn fn ma mr so he sl sg ss wL wN wC wF fL fE fR rN rV fa wx wm wy wk ol os oF : Nat → Int32), zi_I L N M F tg ld gp sn fn ma mr so he fa fL fE fR rN rV → P (nI L, nI N, nI M, wl, nI F, tg, ld, gp, hf, sn, fn, ma, mr, so, he, sl, sg, ss, wL, wN, wC, wF, fL, fE, fR, rN, rV) (nI L, nI N, nI M, nI F, tg, ld, so, he, sn, fn, hf, ma, mr, fa, fL, fE, fR, rN, rV, wx, wm, wy, wk, ol, os, oF)) → P u v
theorem i_up {k : Nat} {u : SX} {v : SY} (h : i_Rel k u v) : i_Rel (k + 5) u v := h
section ZI
variable {lc nc mf wl fr : Int32} {tg ld gp hf sn fn ma mr so he sl sg ss wL wN wC wF fL fE fR rN rV fa wx wm wy wk ol os oF : Nat → Int32}
variable {L N M F : Nat}
theorem zi_mk {k : Nat} (h : zi_I L N M F tg ld gp sn fn ma mr so he fa fL fE fR rN rV) : i_Rel k (nI L, nI N, nI M, wl, nI F, tg, ld, gp, hf, sn, fn, ma, mr, so, he, sl, sg, ss, wL, wN, wC, wF, fL, fE, fR, rN, rV) (nI L, nI N, nI M, nI F, tg, ld, so, he, sn, fn, hf, ma, mr, fa, fL, fE, fR, rN, rV, wx, wm, wy, wk, ol, os, oF) := fun _ hP => hP L N M F wl tg ld gp hf sn fn ma mr so he sl sg ss wL wN wC wF fL fE fR rN rV fa wx wm wy wk ol os oF h
theorem zi_rs {i : Nat} {a b : Int32} (h : zi_r L N F rN rV) (ha : zb_N N a) (hb : zb_V L N b) (hab : a = -1 → b = -1) : zi_r L N F (upd rN i a) (upd rV i b) := by
  intro j hj
  by_cases e : j = i
  · subst e
    rw [pk_us, pk_us]
    exact ⟨ha, hb, hab⟩
  · rw [pk_un e, pk_un e]
    exact h j hj
theorem zi_rp (h : zi_r L N F rN rV) : zi_r L N (F + 1) (zc_w (4 * F) rN 4) (zc_w (4 * F) rV 4) := by
  intro j hj
  by_cases e : j < 4 * F
  · rw [zc_w_o 4 j (Or.inl e), zc_w_o 4 j (Or.inl e)]
    exact h j e
  · rw [zc_w_i 4 j (by omega) (by omega), zc_w_i 4 j (by omega) (by omega)]
    exact ⟨Or.inl rfl, Or.inl rfl, fun _ => rfl⟩
theorem zi_r0 : zi_r L N 0 rN rV := fun i hi => by omega
theorem zi_rl {F' : Nat} (h : zi_r L N F rN rV) (hF : F' ≤ F) : zi_r L N F' rN rV := fun i hi => h i (by omega)
theorem zi_f0 : zi_f L 0 fL fE fR := fun i hi => by omega
theorem zi_fl {F' : Nat} (h : zi_f L F fL fE fR) (hF : F' ≤ F) : zi_f L F' fL fE fR := fun i hi => h i (by omega)
theorem zi_fp {a b c : Int32} (h : zi_f L F fL fE fR) (ha : zb_L L a) (hb : 1 ≤ F → zb_L 64 b ∧ zb_L 4 c) : zi_f L (F + 1) (upd fL F a) (upd fE F b) (upd fR F c) := by
  intro t ht
  by_cases e : t = F
  · subst e
    rw [pk_us, pk_us, pk_us]
    exact ⟨ha, hb⟩
  · rw [pk_un e, pk_un e, pk_un e]
    exact h t (by omega)
theorem zi_u {P : Int32 → Prop} {a : Nat → Int32} {K i : Nat} {x : Int32} (h : ∀ c, c < K → P (a c)) (hx : P x) : ∀ c, c < K → P (upd a i x c) := by
  intro c hc
  rcases zu_c (f := a) (k := i) (j := c) (x := x) with ⟨_, e⟩ | ⟨_, e⟩
  · rw [e]; exact hx
  · rw [e]; exact h c hc
/-- a chain from every class -/
theorem zi_U {v : Int32} (hL : L ≤ 4) (hN : N ≤ 8) (hA : zo_A L N so) (hv : zb_C L N v) : ∃ n, ze_U L N so n v := by
  obtain ⟨c, hc, rfl, h1, h2⟩ := zb_V32 hv hL hN
  exact hA c hc h1 h2
theorem zi_fits {v vx vm : Int32} {x : Nat} (hL : L ≤ 4) (hN : N ≤ 8) (hK : zl_K L N ld so gp fa) (hx : x < L) (ex : vx = nI x) (hv : v = -1 ∨ (zb_C L N v ∧ zb_L N vm)) : ∃ r : Int32, (r = 0 ∨ r = 1) ∧ (∀ post : Int32 → Prop, post r → wpX_fits post (nI L, nI N, mf, wl, fr, tg, ld, gp, hf, sn, fn, ma, mr, so, he, sl, sg, ss, wL, wN, wC, wF, fL, fE, fR, rN, rV) v vx vm) ∧ (∀ post : Int32 → Prop, post r → wpY_fits post (nI L, nI N, mf, fr, tg, ld, so, he, sn, fn, hf, ma, mr, fa, fL, fE, fR, rN, rV, wx, wm, wy, wk, ol, os, oF) v vx vm) := by
  subst ex
  obtain ⟨hD, _, hA, hG⟩ := hK
  rcases hv with rfl | ⟨hC, n, hn, rfl⟩
  · exact ⟨1, Or.inr rfl, fun post hp => br_t rfl hp, fun post hp => br_t rfl hp⟩
  · have hvn := zb_Cn hC hL hN
    obtain ⟨q, hU⟩ := zi_U hL hN hA hC
    by_cases e : zd_d gp ld n (gp (8 * x + n)) 4 0 = -1
    · refine ⟨0, Or.inl rfl, fun post hp => br_f hvn ?_, fun post hp => br_f hvn ?_⟩
      · exact zd_xden (show n < 8 by omega) (show x < 4 by omega) rfl rfl (br_t e hp)
      · exact zd_yden hG (zl_in hD) hL hN hn hx rfl rfl (br_t e hp)
    · obtain ⟨r, h01, AX, AY⟩ := ze_isA (lc := nI L) (nc := nI N) (mf := mf) (wl := wl) (fr := fr) (tg := tg) (ld := ld) (gp := gp) (hf := hf) (sn := sn) (fn := fn) (ma := ma) (mr := mr) (so := so) (he := he) (sl := sl) (sg := sg) (ss := ss) (wL := wL) (wN := wN) (wC := wC) (wF := wF) (fL := fL) (fE := fE) (fR := fR) (rN := rN) (rV := rV) (fa := fa) (wx := wx) (wm := wm) (wy := wy) (wk := wk) (ol := ol) (os := os) (oF := oF) e hU
      refine ⟨r, h01, fun post hp => br_f hvn ?_, fun post hp => br_f hvn ?_⟩
      · refine zd_xden (show n < 8 by omega) (show x < 4 by omega) rfl rfl (br_f e (AX _ ?_))
        rcases h01 with rfl | rfl
        · exact br_t rfl hp
        · exact br_f za_n10 hp
      · refine zd_yden hG (zl_in hD) hL hN hn hx rfl rfl (br_f e (AY _ ?_))
        rcases h01 with rfl | rfl
        · exact br_t rfl hp
        · exact br_f za_n10 hp
/-! undoing inside a call -/
theorem zi_xu {post : Int32 → SX → Prop} {r : Int32} {ld' so' gp' fa' : Nat → Int32} (hF : zl_F ld so gp fa ld' so' gp' fa') (h : ¬ (-2) < r) (hp : post r (lc, nc, mf, wl, fr, tg, ld, gp, hf, sn, fn, ma, mr, so, he, zu_mx 32 ld sl, zu_mx 32 gp sg, zu_mx 32 so ss, wL, wN, wC, wF, fL, fE, fR, rN, rV)) : wpX_settle post (lc, nc, mf, wl, fr, tg, ld', gp', hf, sn, fn, ma, mr, so', he, zu_mx 32 ld sl, zu_mx 32 gp sg, zu_mx 32 so ss, wL, wN, wC, wF, fL, fE, fR, rN, rV) r :=
  zc_xundo h (fun j hj => zu_mx_lo hj) (fun j hj => zu_mx_lo hj) (fun j hj => zu_mx_lo hj) hF.1 hF.2.2.1 hF.2.1 hp
theorem zi_yu {post : Int32 → SY → Prop} {r : Int32} {ld' so' gp' fa' : Nat → Int32} (hF : zl_F ld so gp fa ld' so' gp' fa') (hK : zl_K L N ld so gp fa) (hp : post r (lc, nc, mf, fr, tg, ld, so, he, sn, fn, hf, ma, mr, fa, fL, fE, fR, rN, rV, wx, wm, wy, wk, zu_mx 32 ld ol, zu_mx 32 so os, zu_mx 128 fa oF)) : wpY_undo post (lc, nc, mf, fr, tg, ld', so', he, sn, fn, hf, ma, mr, fa', fL, fE, fR, rN, rV, wx, wm, wy, wk, zu_mx 32 ld ol, zu_mx 32 so os, zu_mx 128 fa oF) r :=
  zc_yundo hK.2.2.2.2.2 (fun j hj => zu_mx_lo hj) (fun j hj => zu_mx_lo hj) (fun j hj => zu_mx_lo hj) hF.1 hF.2.1 hF.2.2.2 hp
end ZI
end
section
/-! methods that load nothing -/
theorem i_vc_delegate {k : Nat} {u : SX} {v : SY} (I : i_Rel k u v) (hk : k + 5 ≤ 2563) (v1 : Int32) (v2 : Int32) (v3 : Int32) : wpX_delegate (fun r u' => wpY_delegate (fun r' v' => r' = r ∧ i_Rel (k + 5) u' v') v v1 v2 v3) u v1 v2 v3 := by
  refine I (fun u v => wpX_delegate (fun r u' => wpY_delegate (fun r' v' => r' = r ∧ i_Rel (k + 5) u' v') v v1 v2 v3) u v1 v2 v3) ?_
  intro L N M F wl tg ld gp hf sn fn ma mr so he sl sg ss wL wN wC wF fL fE fR rN rV fa wx wm wy wk ol os oF h
  have h0 := h
  obtain ⟨⟨hL, hN, hT, hS, hM⟩, hK, hB, hfn, hhe, hf, hr⟩ := h
  unfold wpX_delegate wpY_delegate
  by_cases a : zb_L L v1
  · obtain ⟨l, hl, rfl⟩ := a
    refine zb_xL1 hl (by omega) (br_f za_n10 ?_)
    by_cases b : zb_L L v3
    · obtain ⟨t, ht, rfl⟩ := b
      refine zb_xL1 ht (by omega) (br_f za_n10 ?_)
      by_cases c : zb_L N v2
      · obtain ⟨n, hn, rfl⟩ := c
        refine zb_xN1 hn hN (br_f za_n10 ⟨za_i8 (by omega) (by omega), nm_r (e' := upd tg (8 * l + n) (nI t)) (by rw [za_c8 (by omega)]) ?_⟩)
        refine zb_yL1 hl (by omega) (br_f za_n10 ?_)
        refine zb_yL1 ht (by omega) (br_f za_n10 ?_)
        refine zb_yN1 hn hN (br_f za_n10 ⟨za_i8y (by omega) (by omega), nm_r (e' := upd tg (8 * l + n) (nI t)) (by rw [za_c8y (by omega)]) ⟨rfl, zi_mk ⟨⟨hL, hN, ?_, hS, hM⟩, hK, hB, hfn, hhe, hf, hr⟩⟩⟩)
        intro l' hl' n' hn'
        rcases zu_c (f := tg) (k := 8 * l + n) (j := 8 * l' + n') (x := nI t) with ⟨_, e⟩ | ⟨_, e⟩
        · rw [e]; exact ⟨t, ht, rfl⟩
        · rw [e]; exact hT l' hl' n' hn'
      · refine zb_xN0 c hN (br_t rfl ?_)
        refine zb_yL1 hl (by omega) (br_f za_n10 ?_)
        refine zb_yL1 ht (by omega) (br_f za_n10 ?_)
        exact zb_yN0 c hN (br_t rfl ⟨rfl, zi_mk h0⟩)
    · refine zb_xL0 b (by omega) (br_t rfl ?_)
      refine zb_yL1 hl (by omega) (br_f za_n10 ?_)
      exact zb_yL0 b (by omega) (br_t rfl ⟨rfl, zi_mk h0⟩)
  · refine zb_xL0 a (by omega) (br_t rfl ?_)
    exact zb_yL0 a (by omega) (br_t rfl ⟨rfl, zi_mk h0⟩)
section ZMX
variable {lc nc mf wl fr : Int32} {tg ld gp hf sn fn ma mr so he sl sg ss wL wN wC wF fL fE fR rN rV fa wx wm wy wk ol os oF : Nat → Int32}
theorem zm_x87 {post : Int32 → SX → Prop} {c : Nat} (hc : c < 32) (hp : post 0 (lc, nc, mf, wl, fr, tg, ld, gp, hf, sn, fn, zc_w (2 * c) ma 2, zc_w (2 * c) mr 2, so, he, sl, sg, ss, wL, wN, wC, wF, fL, fE, fR, rN, rV)) : ∀ k i : Nat, i + k = 2 → wX_file_87 post (nI c) lc nc mf wl fr (k + 1) (nI i) tg ld gp hf sn fn (zc_w (2 * c) ma i) (zc_w (2 * c) mr i) so he sl sg ss wL wN wC wF fL fE fR rN rV := by
  intro k
  induction k with
  | zero =>
    intro i hi
    obtain rfl : i = 2 := by omega
    exact br_t (za_ge 2 (by omega) (by omega)) hp
  | succ k ih =>
    intro i hi
    have hv : vp_in (2 * nI c + nI i) 64 := za_i2 hc (by omega)
    have hcl : (2 * nI c + nI i).toNatClampNeg = 2 * c + i := za_c2 (by omega)
    refine br_f (za_nge 2 (by omega)) ⟨hv, nm_r (e' := zc_w (2 * c) ma (i + 1)) (by rw [hcl]; rfl) ⟨hv, nm_r (e' := zc_w (2 * c) mr (i + 1)) (by rw [hcl]; rfl) (nm_r (nI_1 i) ?_)⟩⟩
    exact ih (i + 1) (by omega)
theorem zm_y101 {post : Int32 → SY → Prop} {c : Nat} (hc : c < 32) (hp : post 0 (lc, nc, mf, fr, tg, ld, so, he, sn, fn, hf, zc_w (2 * c) ma 2, zc_w (2 * c) mr 2, fa, fL, fE, fR, rN, rV, wx, wm, wy, wk, ol, os, oF)) : ∀ k i : Nat, i + k = 2 → wY_file_101 post (nI c) lc nc mf fr (k + 1) (nI (2 * c + i)) tg ld so he sn fn hf (zc_w (2 * c) ma i) (zc_w (2 * c) mr i) fa fL fE fR rN rV wx wm wy wk ol os oF := by
  have e2 : nI c * 2 + 2 = nI (2 * c + 2) := za_2y c 2
  intro k
  induction k with
  | zero =>
    intro i hi
    obtain rfl : i = 2 := by omega
    exact br_t (by rw [e2]; exact nI_le (by omega) (by omega)) hp
  | succ k ih =>
    intro i hi
    have hv : vp_in (nI (2 * c + i)) 64 := vp_in_nI (by omega) (by omega)
    have hcl : (nI (2 * c + i)).toNatClampNeg = 2 * c + i := nI_clamp (by omega)
    refine br_f (by rw [e2]; exact nI_ge (by omega) (by omega)) ⟨hv, nm_r (e' := zc_w (2 * c) ma (i + 1)) (by rw [hcl]; rfl) ⟨hv, nm_r (e' := zc_w (2 * c) mr (i + 1)) (by rw [hcl]; rfl) (nm_r (nI_1 (2 * c + i)) ?_)⟩⟩
    exact ih (i + 1) (by omega)
theorem zm_yf {post : Int32 → SY → Prop} {L N l n : Nat} {s f : Int32} (hl : l < L) (hn : n < N) (hL : L ≤ 4) (hN : N ≤ 8) (h3 : ld (8 * l + n) = nI (8 * l + n) → post (-3) (lc, nc, mf, fr, tg, ld, so, he, sn, fn, hf, ma, mr, fa, fL, fE, fR, rN, rV, wx, wm, wy, wk, ol, os, oF)) (h0 : ¬ ld (8 * l + n) = nI (8 * l + n) → post 0 (lc, nc, mf, fr, tg, ld, so, he, upd sn (8 * l + n) s, upd fn (8 * l + n) f, upd hf (8 * l + n) 1, zc_w (2 * (8 * l + n)) ma 2, zc_w (2 * (8 * l + n)) mr 2, fa, fL, fE, fR, rN, rV, wx, wm, wy, wk, ol, os, oF)) : wY_file_47 post (nI l) (nI n) s f lc nc mf fr tg ld so he sn fn hf ma mr fa fL fE fR rN rV wx wm wy wk ol os oF := by
  have hv : vp_in (nI (8 * l + n)) 32 := vp_in_nI (by omega) (by omega)
  have hcl : (nI (8 * l + n)).toNatClampNeg = 8 * l + n := nI_clamp (by omega)
  refine nm_r (za_8 l n) ⟨hv, ?_⟩
  rw [hcl]
  refine br_c h3 (fun z => ⟨hv, nm_r (e' := upd hf (8 * l + n) 1) (by rw [za_b1]) ⟨hv, nm_e ⟨hv, nm_e (nm_r (e' := nI (2 * (8 * l + n) + 0)) ?_ ⟨3, ?_⟩)⟩⟩⟩)
  · rw [show nI (8 * l + n) * (2 : Int32) = nI ((8 * l + n) * 2) from pk_mul (8 * l + n) 2]
    exact congrArg nI (by omega)
  · exact zm_y101 (by omega) (h0 z) 2 0 rfl
theorem zm_y3 {post : Int32 → SY → Prop} {L N l n : Nat} {s f : Int32} (hl : l < L) (hn : n < N) (hL : L ≤ 4) (hN : N ≤ 8) (c : zb_N N s) (h : wY_file_29 post (nI l) (nI n) s f (nI L) (nI N) mf fr tg ld so he sn fn hf ma mr fa fL fE fR rN rV wx wm wy wk ol os oF) : wpY_file post (nI L, nI N, mf, fr, tg, ld, so, he, sn, fn, hf, ma, mr, fa, fL, fE, fR, rN, rV, wx, wm, wy, wk, ol, os, oF) (nI l) (nI n) s f := by
  unfold wpY_file
  refine zb_yL1 hl (by omega) (br_f za_n10 ?_)
  refine zb_yN1 hn hN (br_f za_n10 ?_)
  rcases c with e | ⟨j, hj, rfl⟩
  · exact br_t e h
  · refine br_f (za_n1 (by omega)) ?_
    exact zb_yN1 hj hN (br_f za_n10 h)
theorem zm_M {N c : Nat} (hM : ze_M N ma mr) : ze_M N (zc_w (2 * c) ma 2) (zc_w (2 * c) mr 2) := by
  intro i hi
  by_cases e : i < 2 * c ∨ 2 * c + 2 ≤ i
  · rw [zc_w_o 2 i e, zc_w_o 2 i e]
    exact hM i hi
  · rw [zc_w_i 2 i (by omega) (by omega), zc_w_i 2 i (by omega) (by omega)]
    exact Or.inl ⟨rfl, rfl⟩
end ZMX
theorem i_vc_file {k : Nat} {u : SX} {v : SY} (I : i_Rel k u v) (hk : k + 5 ≤ 2563) (v1 : Int32) (v2 : Int32) (v3 : Int32) (v4 : Int32) : wpX_file (fun r u' => wpY_file (fun r' v' => r' = r ∧ i_Rel (k + 5) u' v') v v1 v2 v3 v4) u v1 v2 v3 v4 := by
  refine I (fun u v => wpX_file (fun r u' => wpY_file (fun r' v' => r' = r ∧ i_Rel (k + 5) u' v') v v1 v2 v3 v4) u v1 v2 v3 v4) ?_
  intro L N M F wl tg ld gp hf sn fn ma mr so he sl sg ss wL wN wC wF fL fE fR rN rV fa wx wm wy wk ol os oF h
  have h0 := h
  obtain ⟨⟨hL, hN, hT, hS, hM⟩, hK, hB, hfn, hhe, hf', hr⟩ := h
  unfold wpX_file
  by_cases a : zb_L L v1
  · obtain ⟨l, hl, rfl⟩ := a
    refine zb_xL1 hl (by omega) (br_f za_n10 ?_)
    by_cases b : zb_L N v2
    · obtain ⟨n, hn, rfl⟩ := b
      refine zb_xN1 hn hN (br_f za_n10 ?_)
      by_cases c : zb_N N v3
      · refine zb_xM1 c hN (br_f za_n10 ?_)
        by_cases d : zb_N N v4
        · refine zb_xM1 d hN (br_f za_n10 ?_)
          have hv : vp_in (nI (8 * l + n)) 32 := vp_in_nI (by omega) (by omega)
          have hcl : (nI (8 * l + n)).toNatClampNeg = 8 * l + n := nI_clamp (by omega)
          have y4 : ∀ post : Int32 → SY → Prop, wY_file_47 post (nI l) (nI n) v3 v4 (nI L) (nI N) (nI M) (nI F) tg ld so he sn fn hf ma mr fa fL fE fR rN rV wx wm wy wk ol os oF → wY_file_29 post (nI l) (nI n) v3 v4 (nI L) (nI N) (nI M) (nI F) tg ld so he sn fn hf ma mr fa fL fE fR rN rV wx wm wy wk ol os oF := by
            intro post h47
            rcases d with e | ⟨j, hj, rfl⟩
            · exact br_t e h47
            · refine br_f (za_n1 (by omega)) ?_
              exact zb_yN1 hj hN (br_f za_n10 h47)
          refine nm_r (za_8 l n) ⟨hv, ?_⟩
          by_cases e : ld (8 * l + n) = nI (8 * l + n)
          · refine br_t (by rw [hcl]; exact e) ?_
            refine zm_y3 hl hn hL hN c (y4 _ (zm_yf hl hn hL hN (fun _ => ?_) (fun z => absurd e z)))
            exact ⟨rfl, zi_mk h0⟩
          · refine br_f (by rw [hcl]; exact e) ⟨hv, nm_r (e' := upd hf (8 * l + n) 1) (by rw [hcl, za_b1]) ⟨hv, nm_r (e' := upd sn (8 * l + n) v3) (by rw [hcl]) ⟨hv, nm_r (e' := upd fn (8 * l + n) v4) (by rw [hcl]) ⟨3, ?_⟩⟩⟩⟩
            refine zm_x87 (by omega) ?_ 2 0 rfl
            refine zm_y3 hl hn hL hN c (y4 _ (zm_yf hl hn hL hN (fun z => absurd z e) (fun _ => ?_)))
            exact ⟨rfl, zi_mk ⟨⟨hL, hN, hT, zi_u hS c, zm_M hM⟩, hK, hB, zi_u hfn d, hhe, hf', hr⟩⟩
        · refine zb_xM0 d hN (br_t rfl ?_)
          refine zm_y3 hl hn hL hN c ?_
          refine br_f (fun e => d (Or.inl e)) ?_
          exact zb_yN0 (fun e => d (Or.inr e)) hN (br_t rfl ⟨rfl, zi_mk h0⟩)
      · refine zb_xM0 c hN (br_t rfl ?_)
        unfold wpY_file
        refine zb_yL1 hl (by omega) (br_f za_n10 ?_)
        refine zb_yN1 hn hN (br_f za_n10 ?_)
        refine br_f (fun e => c (Or.inl e)) ?_
        exact zb_yN0 (fun e => c (Or.inr e)) hN (br_t rfl ⟨rfl, zi_mk h0⟩)
    · refine zb_xN0 b hN (br_t rfl ?_)
      unfold wpY_file
      refine zb_yL1 hl (by omega) (br_f za_n10 ?_)
      exact zb_yN0 b hN (br_t rfl ⟨rfl, zi_mk h0⟩)
  · refine zb_xL0 a (by omega) (br_t rfl ?_)
    unfold wpY_file
    exact zb_yL0 a (by omega) (br_t rfl ⟨rfl, zi_mk h0⟩)
theorem zm_s0 {s : Int32} (h : ¬ zb_L 2 s) (h0 : ¬ s < 0) : (1 : Int32) < s := by
  rcases zb_n h (by decide) with a | a
  · exact absurd a h0
  · rw [Int32.lt_iff_toInt_lt]
    rw [Int32.le_iff_toInt_le] at a
    have e1 : (nI 2).toInt = 2 := by decide
    have e2 : (1 : Int32).toInt = 1 := by decide
    omega
theorem zm_s1 {s : Nat} (h : s < 2) : ¬ nI s < 0 ∧ ¬ (1 : Int32) < nI s ∧ nI s ≤ 1 := ⟨nI_pos (by omega), nI_nlt (b := s) (a := 1) (by omega) (by decide), nI_le (b := 1) (by omega) (by decide)⟩
theorem i_vc_method {k : Nat} {u : SX} {v : SY} (I : i_Rel k u v) (hk : k + 5 ≤ 2563) (v1 : Int32) (v2 : Int32) (v3 : Int32) (v4 : Int32) : wpX_method (fun r u' => wpY_method (fun r' v' => r' = r ∧ i_Rel (k + 5) u' v') v v1 v2 v3 v4) u v1 v2 v3 v4 := by
  refine I (fun u v => wpX_method (fun r u' => wpY_method (fun r' v' => r' = r ∧ i_Rel (k + 5) u' v') v v1 v2 v3 v4) u v1 v2 v3 v4) ?_
  intro L N M F wl tg ld gp hf sn fn ma mr so he sl sg ss wL wN wC wF fL fE fR rN rV fa wx wm wy wk ol os oF h
  have h0 := h
  obtain ⟨⟨hL, hN, hT, hS, hM⟩, hK, hB, hfn, hhe, hf', hr⟩ := h
  unfold wpX_method wpY_method
  by_cases a : zb_C L N v1
  · obtain ⟨c, hc, rfl, c1, c2⟩ := zb_V32 a hL hN
    refine zb_xC1 hc c1 c2 hL hN (br_f za_n10 ?_)
    by_cases b : zb_L 2 v2
    · obtain ⟨s, hs, rfl⟩ := b
      refine zb_xS1 hs (br_f za_n10 ?_)
      obtain ⟨s1, s2, _⟩ := zm_s1 hs
      by_cases d : zb_L N v3
      · obtain ⟨x, hx, rfl⟩ := d
        refine zb_xN1 hx hN (br_f za_n10 ?_)
        by_cases e : zb_L N v4
        · obtain ⟨y, hy, rfl⟩ := e
          refine zb_xN1 hy hN (br_f za_n10 ?_)
          have hv : vp_in (nI c) 32 := vp_in_nI hc (by omega)
          have hcl : (nI c).toNatClampNeg = c := nI_clamp (by omega)
          refine ⟨hv, ?_⟩
          by_cases g : hf c = 0
          · refine br_t (by rw [hcl]; exact g) ?_
            refine zb_yC1 hc c1 c2 hL hN (br_f za_n10 (br_f s1 (br_f s2 ?_)))
            refine zb_yN1 hx hN (br_f za_n10 ?_)
            refine zb_yN1 hy hN (br_f za_n10 ⟨hv, br_t (by rw [hcl]; exact g) ⟨rfl, zi_mk h0⟩⟩)
          · refine br_f (by rw [hcl]; exact g) ⟨hv, ?_⟩
            by_cases m : ld c = nI c
            · refine br_t (by rw [hcl]; exact m) ?_
              refine zb_yC1 hc c1 c2 hL hN (br_f za_n10 (br_f s1 (br_f s2 ?_)))
              refine zb_yN1 hx hN (br_f za_n10 ?_)
              refine zb_yN1 hy hN (br_f za_n10 ⟨hv, br_f (by rw [hcl]; exact g) ⟨hv, br_t (by rw [hcl]; exact m) ⟨rfl, zi_mk h0⟩⟩⟩)
            · refine br_f (by rw [hcl]; exact m) ⟨za_i2 hc hs, nm_r (e' := upd ma (2 * c + s) (nI x)) (by rw [za_c2 (by omega)]) ⟨za_i2 hc hs, nm_r (e' := upd mr (2 * c + s) (nI y)) (by rw [za_c2 (by omega)]) ?_⟩⟩
              refine zb_yC1 hc c1 c2 hL hN (br_f za_n10 (br_f s1 (br_f s2 ?_)))
              refine zb_yN1 hx hN (br_f za_n10 ?_)
              refine zb_yN1 hy hN (br_f za_n10 ⟨hv, br_f (by rw [hcl]; exact g) ⟨hv, br_f (by rw [hcl]; exact m) ⟨za_i2y hc hs, nm_r (e' := upd ma (2 * c + s) (nI x)) (by rw [za_c2y (by omega)]) ⟨za_i2y hc hs, nm_r (e' := upd mr (2 * c + s) (nI y)) (by rw [za_c2y (by omega)]) ⟨rfl, zi_mk ⟨⟨hL, hN, hT, hS, ?_⟩, hK, hB, hfn, hhe, hf', hr⟩⟩⟩⟩⟩⟩)
              intro i hi
              by_cases e : i = 2 * c + s
              · subst e
                rw [pk_us, pk_us]
                exact Or.inr ⟨⟨x, hx, rfl⟩, y, hy, rfl⟩
              · rw [pk_un e, pk_un e]
                exact hM i hi
        · refine zb_xN0 e hN (br_t rfl ?_)
          refine zb_yC1 hc c1 c2 hL hN (br_f za_n10 (br_f s1 (br_f s2 ?_)))
          refine zb_yN1 hx hN (br_f za_n10 ?_)
          exact zb_yN0 e hN (br_t rfl ⟨rfl, zi_mk h0⟩)
      · refine zb_xN0 d hN (br_t rfl ?_)
        refine zb_yC1 hc c1 c2 hL hN (br_f za_n10 (br_f s1 (br_f s2 ?_)))
        exact zb_yN0 d hN (br_t rfl ⟨rfl, zi_mk h0⟩)
    · refine zb_xS0 b (br_t rfl ?_)
      refine zb_yC1 hc c1 c2 hL hN (br_f za_n10 (br_c (fun _ => ⟨rfl, zi_mk h0⟩) (fun z => br_t (zm_s0 b z) ⟨rfl, zi_mk h0⟩)))
  · refine zb_xC0 a hL hN (br_t rfl ?_)
    exact zb_yC0 a hL hN (br_t rfl ⟨rfl, zi_mk h0⟩)
end
section
/-! further methods that load nothing -/
theorem i_vc_begin {k : Nat} {u : SX} {v : SY} (I : i_Rel k u v) (hk : k + 5 ≤ 2563) (v1 : Int32) : wpX_begin (fun r u' => wpY_begin (fun r' v' => r' = r ∧ i_Rel (k + 5) u' v') v v1) u v1 := by
  refine I (fun u v => wpX_begin (fun r u' => wpY_begin (fun r' v' => r' = r ∧ i_Rel (k + 5) u' v') v v1) u v1) ?_
  intro L N M F wl tg ld gp hf sn fn ma mr so he sl sg ss wL wN wC wF fL fE fR rN rV fa wx wm wy wk ol os oF h
  have h0 := h
  obtain ⟨⟨hL, hN, hT, hS, hM⟩, hK, hB, hfn, hhe, hf', hr⟩ := h
  unfold wpX_begin wpY_begin
  by_cases a : zb_L L v1
  · have a0 := a
    obtain ⟨l, hl, rfl⟩ := a
    refine zb_xL1 hl (by omega) (br_f za_n10 ?_)
    refine zc_xpush (F := 0) (by omega) ?_
    refine zb_yL1 hl (by omega) (br_f za_n10 ?_)
    refine zc_ypush (F := 0) (by omega) ?_
    exact ⟨rfl, zi_mk (F := 0 + 1) ⟨⟨hL, hN, hT, hS, hM⟩, hK, ⟨hB.1, hB.2.1, by omega⟩, hfn, hhe, zi_fp zi_f0 a0 (fun z => by omega), zi_rp zi_r0⟩⟩
  · refine zb_xL0 a (by omega) (br_t rfl ?_)
    exact zb_yL0 a (by omega) (br_t rfl ⟨rfl, zi_mk h0⟩)
theorem i_vc_nil {k : Nat} {u : SX} {v : SY} (I : i_Rel k u v) (hk : k + 5 ≤ 2563) (v1 : Int32) (v2 : Int32) : wpX_nil (fun r u' => wpY_nil (fun r' v' => r' = r ∧ i_Rel (k + 5) u' v') v v1 v2) u v1 v2 := by
  refine I (fun u v => wpX_nil (fun r u' => wpY_nil (fun r' v' => r' = r ∧ i_Rel (k + 5) u' v') v v1 v2) u v1 v2) ?_
  intro L N M F wl tg ld gp hf sn fn ma mr so he sl sg ss wL wN wC wF fL fE fR rN rV fa wx wm wy wk ol os oF h
  have h0 := h
  obtain ⟨⟨hL, hN, hT, hS, hM⟩, hK, hB, hfn, hhe, hf', hr⟩ := h
  have h01 := hK.2.2.2.2.2
  unfold wpX_nil wpY_nil
  refine zb_xK hN (by omega) (fun z => ?_) (fun z zF => ?_) (fun z zF => ?_)
  · refine br_f (by decide) ?_
    refine zc_yready h01 hN (by omega) (fun _ => ?_) (fun y => absurd y z) (fun y => absurd y z)
    exact br_f (by decide) ⟨rfl, zi_mk h0⟩
  · refine br_f (by decide) ?_
    refine zc_yready h01 hN (by omega) (fun y => absurd z y) (fun _ _ => ?_) (fun _ y => by omega)
    exact br_f (by decide) ⟨rfl, zi_mk h0⟩
  · refine br_t rfl ?_
    have z0 := z
    obtain ⟨⟨r, hr4, rfl⟩, n, hn, rfl⟩ := z
    refine zc_xtop zF (by omega) hr4 ?_
    refine zc_yready h01 hN (by omega) (fun y => absurd z0 y) (fun _ y => by omega) (fun _ _ => ?_)
    refine br_t rfl ?_
    rw [za_p zF]
    refine zc_yreg (by omega) hr4 ⟨rfl, ?_⟩
    exact zi_mk ⟨⟨hL, hN, hT, hS, hM⟩, hK, hB, hfn, hhe, hf', zi_rs hr (Or.inr ⟨n, hn, rfl⟩) (Or.inl rfl) (fun _ => rfl)⟩
theorem i_vc_denotes {k : Nat} {u : SX} {v : SY} (I : i_Rel k u v) (hk : k + 5 ≤ 2563) (v1 : Int32) (v2 : Int32) : wpX_denotes (fun r => wpY_denotes (fun r' => r' = r ∧ i_Rel (k + 5) u v) v v1 v2) u v1 v2 := by
  refine I (fun u v => wpX_denotes (fun r => wpY_denotes (fun r' => r' = r ∧ i_Rel (k + 5) u v) v v1 v2) u v1 v2) ?_
  intro L N M F wl tg ld gp hf sn fn ma mr so he sl sg ss wL wN wC wF fL fE fR rN rV fa wx wm wy wk ol os oF h
  have h0 := h
  obtain ⟨⟨hL, hN, hT, hS, hM⟩, hK, hB, hfn, hhe, hf', hr⟩ := h
  unfold wpX_denotes
  by_cases a : zb_L L v1
  · obtain ⟨l, hl, rfl⟩ := a
    refine zb_xL1 hl (by omega) (br_f za_n10 ?_)
    by_cases b : zb_L N v2
    · obtain ⟨n, hn, rfl⟩ := b
      refine zb_xN1 hn hN (br_f za_n10 ?_)
      refine zd_xden (show n < 8 by omega) (show l < 4 by omega) rfl rfl ?_
      exact zd_yden hK.2.2.2 (zl_in hK.1) hL hN hn hl rfl rfl ⟨rfl, zi_mk h0⟩
    · refine zb_xN0 b hN (br_t rfl ?_)
      unfold wpY_denotes
      refine zb_yL1 hl (by omega) (br_f za_n10 ?_)
      exact zb_yN0 b hN (br_t rfl ⟨rfl, zi_mk h0⟩)
  · refine zb_xL0 a (by omega) (br_t rfl ?_)
    unfold wpY_denotes
    exact zb_yL0 a (by omega) (br_t rfl ⟨rfl, zi_mk h0⟩)
theorem i_vc_tied {k : Nat} {u : SX} {v : SY} (I : i_Rel k u v) (hk : k + 5 ≤ 2563) (v1 : Int32) (v2 : Int32) (v3 : Int32) : wpX_tied (fun r => wpY_tied (fun r' => r' = r ∧ i_Rel (k + 5) u v) v v1 v2 v3) u v1 v2 v3 := by
  refine I (fun u v => wpX_tied (fun r => wpY_tied (fun r' => r' = r ∧ i_Rel (k + 5) u v) v v1 v2 v3) u v1 v2 v3) ?_
  intro L N M F wl tg ld gp hf sn fn ma mr so he sl sg ss wL wN wC wF fL fE fR rN rV fa wx wm wy wk ol os oF h
  have h0 := h
  obtain ⟨⟨hL, hN, hT, hS, hM⟩, hK, hB, hfn, hhe, hf', hr⟩ := h
  unfold wpX_tied
  by_cases a : zb_L L v2
  · by_cases b : zb_L L v3
    · by_cases c : zb_L N v1
      · obtain ⟨l, hl, rfl⟩ := a
        obtain ⟨m, hm, rfl⟩ := b
        obtain ⟨n, hn, rfl⟩ := c
        refine zb_xL1 hl (by omega) (br_f za_n10 ?_)
        refine zb_xL1 hm (by omega) (br_f za_n10 ?_)
        refine zb_xN1 hn hN (br_f za_n10 ⟨za_i8 (by omega) (by omega), za_i8 (by omega) (by omega), ?_⟩)
        rw [za_c8 (by omega), za_c8 (by omega)]
        refine br_c (fun e => ?_) (fun e => ?_)
        · exact zt_tied hK.2.2.2 hL hN hn hl hm rfl rfl (fun _ => ⟨rfl, zi_mk h0⟩) (fun z => absurd e z)
        · exact zt_tied hK.2.2.2 hL hN hn hl hm rfl rfl (fun z => absurd z e) (fun _ => ⟨rfl, zi_mk h0⟩)
      · obtain ⟨l, hl, rfl⟩ := a
        obtain ⟨m, hm, rfl⟩ := b
        refine zb_xL1 hl (by omega) (br_f za_n10 ?_)
        refine zb_xL1 hm (by omega) (br_f za_n10 ?_)
        refine zb_xN0 c hN (br_t rfl ?_)
        unfold wpY_tied
        exact zb_yN0 c hN (br_t rfl ⟨rfl, zi_mk h0⟩)
    · have y0 : wpY_tied (fun r' => r' = 0 ∧ i_Rel (k + 5) (nI L, nI N, nI M, wl, nI F, tg, ld, gp, hf, sn, fn, ma, mr, so, he, sl, sg, ss, wL, wN, wC, wF, fL, fE, fR, rN, rV) (nI L, nI N, nI M, nI F, tg, ld, so, he, sn, fn, hf, ma, mr, fa, fL, fE, fR, rN, rV, wx, wm, wy, wk, ol, os, oF)) (nI L, nI N, nI M, nI F, tg, ld, so, he, sn, fn, hf, ma, mr, fa, fL, fE, fR, rN, rV, wx, wm, wy, wk, ol, os, oF) v1 v2 v3 := by
        unfold wpY_tied
        by_cases c : zb_L N v1
        · obtain ⟨n, hn, rfl⟩ := c
          obtain ⟨l, hl, rfl⟩ := a
          refine zb_yN1 hn hN (br_f za_n10 ?_)
          refine zb_yL1 hl (by omega) (br_f za_n10 ?_)
          exact zb_yL0 b (by omega) (br_t rfl ⟨rfl, zi_mk h0⟩)
        · exact zb_yN0 c hN (br_t rfl ⟨rfl, zi_mk h0⟩)
      obtain ⟨l, hl, rfl⟩ := a
      refine zb_xL1 hl (by omega) (br_f za_n10 ?_)
      exact zb_xL0 b (by omega) (br_t rfl y0)
  · refine zb_xL0 a (by omega) (br_t rfl ?_)
    unfold wpY_tied
    by_cases c : zb_L N v1
    · obtain ⟨n, hn, rfl⟩ := c
      refine zb_yN1 hn hN (br_f za_n10 ?_)
      exact zb_yL0 a (by omega) (br_t rfl ⟨rfl, zi_mk h0⟩)
    · exact zb_yN0 c hN (br_t rfl ⟨rfl, zi_mk h0⟩)
end
section
/-! looking -/
section ZK
variable {lc nc mf wl fr : Int32} {tg ld gp hf sn fn ma mr so he sl sg ss wL wN wC wF fL fE fR rN rV fa wx wm wy wk ol os oF : Nat → Int32}
variable {L N F : Nat} {p1 p2 : Int32}
theorem zk_cell {q : Nat} (hL : L ≤ 4) (hN : N ≤ 8) (hq : q < 2) : ∃ r : Int32, (∀ post : Int32 → Prop, post r → wpX_look post (nI L, nI N, mf, wl, fr, tg, ld, gp, hf, sn, fn, ma, mr, so, he, sl, sg, ss, wL, wN, wC, wF, fL, fE, fR, rN, rV) (nI q) p1 p2) ∧ (∀ post : Int32 → Prop, post r → wpY_look post (nI L, nI N, mf, fr, tg, ld, so, he, sn, fn, hf, ma, mr, fa, fL, fE, fR, rN, rV, wx, wm, wy, wk, ol, os, oF) (nI q) p1 p2) := by
  have b1 : ¬ nI q < 0 := nI_pos (by omega)
  have b2 : nI q ≤ 13 := nI_le (b := 13) (by omega) (by decide)
  have b3 : ¬ nI q = 8 := fun e => by
    have := za_im (b := 8) e (by omega) (by decide)
    omega
  have b4 : ¬ (1 : Int32) < nI q := nI_nlt (a := 1) (by omega) (by decide)
  by_cases a : zb_L L p1
  · obtain ⟨l, hl, rfl⟩ := a
    by_cases b : zb_L N p2
    · obtain ⟨n, hn, rfl⟩ := b
      have hv : vp_in (8 * nI l + nI n) 32 := za_i8 (by omega) (by omega)
      have hc : (8 * nI l + nI n).toNatClampNeg = 8 * l + n := za_c8 (by omega)
      have hvy : vp_in (nI l * 8 + nI n) 32 := za_i8y (by omega) (by omega)
      have hcy : (nI l * 8 + nI n).toNatClampNeg = 8 * l + n := za_c8y (by omega)
      by_cases e : nI q = 0
      · refine ⟨ld (8 * l + n), fun post hp => br_f b1 (br_t b2 (br_f b3 (br_f b4 ?_))), fun post hp => br_f b1 (br_t b2 (br_f b3 (br_f b4 ?_)))⟩
        · unfold wpX_lookCell
          refine zb_xL1 hl (by omega) (br_f za_n10 ?_)
          refine zb_xN1 hn hN (br_f za_n10 (br_t e ⟨hv, ?_⟩))
          rw [hc]; exact hp
        · refine zb_yL1 hl (by omega) (br_f za_n10 ?_)
          refine zb_yN1 hn hN (br_f za_n10 (br_t e ⟨hvy, ?_⟩))
          rw [hcy]; exact hp
      · refine ⟨tg (8 * l + n), fun post hp => br_f b1 (br_t b2 (br_f b3 (br_f b4 ?_))), fun post hp => br_f b1 (br_t b2 (br_f b3 (br_f b4 ?_)))⟩
        · unfold wpX_lookCell
          refine zb_xL1 hl (by omega) (br_f za_n10 ?_)
          refine zb_xN1 hn hN (br_f za_n10 (br_f e ⟨hv, ?_⟩))
          rw [hc]; exact hp
        · refine zb_yL1 hl (by omega) (br_f za_n10 ?_)
          refine zb_yN1 hn hN (br_f za_n10 (br_f e ⟨hvy, ?_⟩))
          rw [hcy]; exact hp
    · refine ⟨-2, fun post hp => br_f b1 (br_t b2 (br_f b3 (br_f b4 ?_))), fun post hp => br_f b1 (br_t b2 (br_f b3 (br_f b4 ?_)))⟩
      · unfold wpX_lookCell
        refine zb_xL1 hl (by omega) (br_f za_n10 ?_)
        exact zb_xN0 b hN (br_t rfl hp)
      · refine zb_yL1 hl (by omega) (br_f za_n10 ?_)
        exact zb_yN0 b hN (br_t rfl hp)
  · refine ⟨-2, fun post hp => br_f b1 (br_t b2 (br_f b3 (br_f b4 ?_))), fun post hp => br_f b1 (br_t b2 (br_f b3 (br_f b4 ?_)))⟩
    · unfold wpX_lookCell
      exact zb_xL0 a (by omega) (br_t rfl hp)
    · exact zb_yL0 a (by omega) (br_t rfl hp)
theorem zk_meth (hL : L ≤ 4) (hN : N ≤ 8) : ∃ r : Int32, (∀ post : Int32 → Prop, post r → wpX_look post (nI L, nI N, mf, wl, fr, tg, ld, gp, hf, sn, fn, ma, mr, so, he, sl, sg, ss, wL, wN, wC, wF, fL, fE, fR, rN, rV) 5 p1 p2) ∧ (∀ post : Int32 → Prop, post r → wpY_look post (nI L, nI N, mf, fr, tg, ld, so, he, sn, fn, hf, ma, mr, fa, fL, fE, fR, rN, rV, wx, wm, wy, wk, ol, os, oF) 5 p1 p2) := by
  have gX : ∀ post : Int32 → Prop, wpX_lookMethod (fun r => post r) (nI L, nI N, mf, wl, fr, tg, ld, gp, hf, sn, fn, ma, mr, so, he, sl, sg, ss, wL, wN, wC, wF, fL, fE, fR, rN, rV) p1 p2 → wpX_look post (nI L, nI N, mf, wl, fr, tg, ld, gp, hf, sn, fn, ma, mr, so, he, sl, sg, ss, wL, wN, wC, wF, fL, fE, fR, rN, rV) 5 p1 p2 := fun post h => br_f (by decide) (br_t (by decide) (br_f (by decide) (br_t (by decide) (br_t rfl h))))
  by_cases a : zb_C L N p1
  · obtain ⟨c, hc, rfl, c1, c2⟩ := zb_V32 a hL hN
    by_cases b : zb_L 2 p2
    · obtain ⟨s, hs, rfl⟩ := b
      obtain ⟨s1, _, s3⟩ := zm_s1 hs
      have hv : vp_in (nI (2 * c + s)) 64 := vp_in_nI (by omega) (by omega)
      have hcl : (nI (2 * c + s)).toNatClampNeg = 2 * c + s := nI_clamp (by omega)
      have hvy : vp_in (nI c * 2 + nI s) 64 := za_i2y hc hs
      have hcy : (nI c * 2 + nI s).toNatClampNeg = 2 * c + s := za_c2y (by omega)
      by_cases e : ma (2 * c + s) = -1
      · refine ⟨-1, fun post hp => gX post ?_, fun post hp => br_f (by decide) (br_t (by decide) (br_f (by decide) (br_t (by decide) (br_f (by decide) ?_))))⟩
        · unfold wpX_lookMethod
          refine zb_xC1 hc c1 c2 hL hN (br_f za_n10 ?_)
          exact zb_xS1 hs (br_f za_n10 (nm_r (za_2 c s) ⟨hv, br_t (by rw [hcl]; exact e) hp⟩))
        · refine zb_yC1 hc c1 c2 hL hN (br_f za_n10 (br_f (by decide) (br_f (by decide) (br_f (by decide) (br_f (by decide) (br_f (by decide) (br_f s1 (br_t s3 ⟨hvy, br_t (by rw [hcy]; exact e) hp⟩))))))))
      · refine ⟨ma (2 * c + s) * 8 + mr (2 * c + s), fun post hp => gX post ?_, fun post hp => br_f (by decide) (br_t (by decide) (br_f (by decide) (br_t (by decide) (br_f (by decide) ?_))))⟩
        · unfold wpX_lookMethod
          refine zb_xC1 hc c1 c2 hL hN (br_f za_n10 ?_)
          refine zb_xS1 hs (br_f za_n10 (nm_r (za_2 c s) ⟨hv, br_f (by rw [hcl]; exact e) ⟨hv, hv, ?_⟩⟩))
          rw [hcl]; exact hp
        · refine zb_yC1 hc c1 c2 hL hN (br_f za_n10 (br_f (by decide) (br_f (by decide) (br_f (by decide) (br_f (by decide) (br_f (by decide) (br_f s1 (br_t s3 ⟨hvy, br_f (by rw [hcy]; exact e) ⟨hvy, hvy, ?_⟩⟩))))))))
          rw [hcy]; exact hp
    · refine ⟨-2, fun post hp => gX post ?_, fun post hp => br_f (by decide) (br_t (by decide) (br_f (by decide) (br_t (by decide) (br_f (by decide) ?_))))⟩
      · unfold wpX_lookMethod
        refine zb_xC1 hc c1 c2 hL hN (br_f za_n10 ?_)
        exact zb_xS0 b (br_t rfl hp)
      · refine zb_yC1 hc c1 c2 hL hN (br_f za_n10 (br_f (by decide) (br_f (by decide) (br_f (by decide) (br_f (by decide) (br_f (by decide) (br_c (fun _ => hp) (fun z => br_f (fun w => ?_) hp))))))))
        exact Int32.not_lt.mpr w (zm_s0 b z)
  · refine ⟨-2, fun post hp => gX post ?_, fun post hp => br_f (by decide) (br_t (by decide) (br_f (by decide) (br_t (by decide) (br_f (by decide) ?_))))⟩
    · unfold wpX_lookMethod
      exact zb_xC0 a hL hN (br_t rfl hp)
    · exact zb_yC0 a hL hN (br_t rfl hp)
theorem zk_cls {q : Nat} (hL : L ≤ 4) (hN : N ≤ 8) (hq : q = 2 ∨ q = 3 ∨ q = 4 ∨ q = 6 ∨ q = 7) : ∃ r : Int32, (∀ post : Int32 → Prop, post r → wpX_look post (nI L, nI N, mf, wl, fr, tg, ld, gp, hf, sn, fn, ma, mr, so, he, sl, sg, ss, wL, wN, wC, wF, fL, fE, fR, rN, rV) (nI q) p1 p2) ∧ (∀ post : Int32 → Prop, post r → wpY_look post (nI L, nI N, mf, fr, tg, ld, so, he, sn, fn, hf, ma, mr, fa, fL, fE, fR, rN, rV, wx, wm, wy, wk, ol, os, oF) (nI q) p1 p2) := by
  have gX : ∀ post : Int32 → Prop, wpX_lookClass (fun r => post r) (nI L, nI N, mf, wl, fr, tg, ld, gp, hf, sn, fn, ma, mr, so, he, sl, sg, ss, wL, wN, wC, wF, fL, fE, fR, rN, rV) (nI q) p1 → wpX_look post (nI L, nI N, mf, wl, fr, tg, ld, gp, hf, sn, fn, ma, mr, so, he, sl, sg, ss, wL, wN, wC, wF, fL, fE, fR, rN, rV) (nI q) p1 p2 := by
    intro post h
    rcases hq with rfl | rfl | rfl | rfl | rfl
    · exact br_f (by decide) (br_t (by decide) (br_f (by decide) (br_t (by decide) (br_f (by decide) (br_f (by decide) h)))))
    · exact br_f (by decide) (br_t (by decide) (br_f (by decide) (br_t (by decide) (br_f (by decide) (br_f (by decide) h)))))
    · exact br_f (by decide) (br_t (by decide) (br_f (by decide) (br_t (by decide) (br_f (by decide) (br_f (by decide) h)))))
    · exact br_f (by decide) (br_t (by decide) (br_f (by decide) (br_t (by decide) (br_f (by decide) (br_f (by decide) h)))))
    · exact br_f (by decide) (br_t (by decide) (br_f (by decide) (br_t (by decide) (br_f (by decide) (br_f (by decide) h)))))
  have d0 : ¬ nI q < 0 ∧ nI q ≤ 13 ∧ ¬ nI q = 8 ∧ (1 : Int32) < nI q ∧ ¬ (7 : Int32) < nI q := by
    rcases hq with rfl | rfl | rfl | rfl | rfl <;> decide
  by_cases a : zb_C L N p1
  · obtain ⟨c, hc, rfl, c1, c2⟩ := zb_V32 a hL hN
    have hv : vp_in (nI c) 32 := vp_in_nI hc (by omega)
    have hcl : (nI c).toNatClampNeg = c := nI_clamp (by omega)
    rcases hq with rfl | rfl | rfl | rfl | rfl
    · by_cases e : hf c = 0
      · refine ⟨-1, fun post hp => gX post ?_, fun post hp => br_f d0.1 (br_t d0.2.1 (br_f d0.2.2.1 (br_t d0.2.2.2.1 (br_f d0.2.2.2.2 ?_))))⟩
        · unfold wpX_lookClass
          exact zb_xC1 hc c1 c2 hL hN (br_f za_n10 (br_t (by decide) ⟨hv, br_t (by rw [hcl]; exact e) hp⟩))
        · exact zb_yC1 hc c1 c2 hL hN (br_f za_n10 (br_t (by decide) ⟨hv, br_t (by rw [hcl]; exact e) hp⟩))
      · by_cases g : ld c = nI c
        · refine ⟨1, fun post hp => gX post ?_, fun post hp => br_f d0.1 (br_t d0.2.1 (br_f d0.2.2.1 (br_t d0.2.2.2.1 (br_f d0.2.2.2.2 ?_))))⟩
          · unfold wpX_lookClass
            exact zb_xC1 hc c1 c2 hL hN (br_f za_n10 (br_t (by decide) ⟨hv, br_f (by rw [hcl]; exact e) ⟨hv, br_t (by rw [hcl]; exact g) hp⟩⟩))
          · exact zb_yC1 hc c1 c2 hL hN (br_f za_n10 (br_t (by decide) ⟨hv, br_f (by rw [hcl]; exact e) ⟨hv, br_t (by rw [hcl]; exact g) hp⟩⟩))
        · refine ⟨0, fun post hp => gX post ?_, fun post hp => br_f d0.1 (br_t d0.2.1 (br_f d0.2.2.1 (br_t d0.2.2.2.1 (br_f d0.2.2.2.2 ?_))))⟩
          · unfold wpX_lookClass
            exact zb_xC1 hc c1 c2 hL hN (br_f za_n10 (br_t (by decide) ⟨hv, br_f (by rw [hcl]; exact e) ⟨hv, br_f (by rw [hcl]; exact g) hp⟩⟩))
          · exact zb_yC1 hc c1 c2 hL hN (br_f za_n10 (br_t (by decide) ⟨hv, br_f (by rw [hcl]; exact e) ⟨hv, br_f (by rw [hcl]; exact g) hp⟩⟩))
    · refine ⟨sn c, fun post hp => gX post ?_, fun post hp => br_f d0.1 (br_t d0.2.1 (br_f d0.2.2.1 (br_t d0.2.2.2.1 (br_f d0.2.2.2.2 ?_))))⟩
      · unfold wpX_lookClass
        exact zb_xC1 hc c1 c2 hL hN (br_f za_n10 (br_f (by decide) (br_t (by decide) ⟨hv, by rw [hcl]; exact hp⟩)))
      · exact zb_yC1 hc c1 c2 hL hN (br_f za_n10 (br_f (by decide) (br_t (by decide) ⟨hv, by rw [hcl]; exact hp⟩)))
    · refine ⟨fn c, fun post hp => gX post ?_, fun post hp => br_f d0.1 (br_t d0.2.1 (br_f d0.2.2.1 (br_t d0.2.2.2.1 (br_f d0.2.2.2.2 ?_))))⟩
      · unfold wpX_lookClass
        exact zb_xC1 hc c1 c2 hL hN (br_f za_n10 (br_f (by decide) (br_f (by decide) (br_t (by decide) ⟨hv, by rw [hcl]; exact hp⟩))))
      · exact zb_yC1 hc c1 c2 hL hN (br_f za_n10 (br_f (by decide) (br_f (by decide) (br_t (by decide) ⟨hv, by rw [hcl]; exact hp⟩))))
    · refine ⟨so c, fun post hp => gX post ?_, fun post hp => br_f d0.1 (br_t d0.2.1 (br_f d0.2.2.1 (br_t d0.2.2.2.1 (br_f d0.2.2.2.2 ?_))))⟩
      · unfold wpX_lookClass
        exact zb_xC1 hc c1 c2 hL hN (br_f za_n10 (br_f (by decide) (br_f (by decide) (br_f (by decide) (br_t (by decide) ⟨hv, by rw [hcl]; exact hp⟩)))))
      · exact zb_yC1 hc c1 c2 hL hN (br_f za_n10 (br_f (by decide) (br_f (by decide) (br_f (by decide) (br_t (by decide) ⟨hv, by rw [hcl]; exact hp⟩)))))
    · refine ⟨he c, fun post hp => gX post ?_, fun post hp => br_f d0.1 (br_t d0.2.1 (br_f d0.2.2.1 (br_t d0.2.2.2.1 (br_f d0.2.2.2.2 ?_))))⟩
      · unfold wpX_lookClass
        exact zb_xC1 hc c1 c2 hL hN (br_f za_n10 (br_f (by decide) (br_f (by decide) (br_f (by decide) (br_f (by decide) ⟨hv, by rw [hcl]; exact hp⟩)))))
      · exact zb_yC1 hc c1 c2 hL hN (br_f za_n10 (br_f (by decide) (br_f (by decide) (br_f (by decide) (br_f (by decide) (br_t (by decide) ⟨hv, by rw [hcl]; exact hp⟩))))))
  · refine ⟨-2, fun post hp => gX post ?_, fun post hp => br_f d0.1 (br_t d0.2.1 (br_f d0.2.2.1 (br_t d0.2.2.2.1 (br_f d0.2.2.2.2 ?_))))⟩
    · unfold wpX_lookClass
      exact zb_xC0 a hL hN (br_t rfl hp)
    · exact zb_yC0 a hL hN (br_t rfl hp)
theorem zk_fr {q : Nat} (hF : F ≤ 8) (hq : q = 9 ∨ q = 10 ∨ q = 11 ∨ q = 12 ∨ q = 13) : ∃ r : Int32, (∀ post : Int32 → Prop, post r → wpX_look post (lc, nc, mf, wl, nI F, tg, ld, gp, hf, sn, fn, ma, mr, so, he, sl, sg, ss, wL, wN, wC, wF, fL, fE, fR, rN, rV) (nI q) p1 p2) ∧ (∀ post : Int32 → Prop, post r → wpY_look post (lc, nc, mf, nI F, tg, ld, so, he, sn, fn, hf, ma, mr, fa, fL, fE, fR, rN, rV, wx, wm, wy, wk, ol, os, oF) (nI q) p1 p2) := by
  have d0 : ¬ nI q < 0 ∧ nI q ≤ 13 ∧ ¬ nI q = 8 ∧ (1 : Int32) < nI q ∧ (7 : Int32) < nI q ∧ ¬ nI q = 5 ∧ (8 : Int32) ≤ nI q := by
    rcases hq with rfl | rfl | rfl | rfl | rfl <;> decide
  have gX : ∀ post : Int32 → Prop, wpX_lookFrame (fun r => post r) (lc, nc, mf, wl, nI F, tg, ld, gp, hf, sn, fn, ma, mr, so, he, sl, sg, ss, wL, wN, wC, wF, fL, fE, fR, rN, rV) (nI q) p1 p2 → wpX_look post (lc, nc, mf, wl, nI F, tg, ld, gp, hf, sn, fn, ma, mr, so, he, sl, sg, ss, wL, wN, wC, wF, fL, fE, fR, rN, rV) (nI q) p1 p2 := fun post h => br_f d0.1 (br_t d0.2.1 (br_f d0.2.2.1 (br_t d0.2.2.2.1 (br_f d0.2.2.2.2.2.1 (br_t d0.2.2.2.2.2.2 h)))))
  by_cases a : p1 < 0
  · exact ⟨-2, fun post hp => gX post (br_t a hp), fun post hp => br_f d0.1 (br_t d0.2.1 (br_f d0.2.2.1 (br_t d0.2.2.2.1 (br_t d0.2.2.2.2.1 (br_t a hp)))))⟩
  · by_cases b : p1 < nI F
    · obtain ⟨t, ht, rfl⟩ := nI_of a
      have htF : t < F := (nI_ltI ht (by omega)).mp b
      have hv : vp_in (nI t) 8 := vp_in_nI (by omega) (by omega)
      have hcl : (nI t).toNatClampNeg = t := nI_clamp ht
      rcases hq with rfl | rfl | rfl | rfl | rfl
      · refine ⟨fL t, fun post hp => gX post (br_f a (br_t b (br_t (by decide) ⟨hv, ?_⟩))), fun post hp => br_f d0.1 (br_t d0.2.1 (br_f d0.2.2.1 (br_t d0.2.2.2.1 (br_t d0.2.2.2.2.1 (br_f a (br_t b (br_t (by decide) ⟨hv, ?_⟩)))))))⟩
        · rw [hcl]; exact hp
        · rw [hcl]; exact hp
      · refine ⟨fE t, fun post hp => gX post (br_f a (br_t b (br_f (by decide) (br_t (by decide) ⟨hv, ?_⟩)))), fun post hp => br_f d0.1 (br_t d0.2.1 (br_f d0.2.2.1 (br_t d0.2.2.2.1 (br_t d0.2.2.2.2.1 (br_f a (br_t b (br_f (by decide) (br_t (by decide) ⟨hv, ?_⟩))))))))⟩
        · rw [hcl]; exact hp
        · rw [hcl]; exact hp
      · refine ⟨fR t, fun post hp => gX post (br_f a (br_t b (br_f (by decide) (br_f (by decide) (br_t (by decide) ⟨hv, ?_⟩))))), fun post hp => br_f d0.1 (br_t d0.2.1 (br_f d0.2.2.1 (br_t d0.2.2.2.1 (br_t d0.2.2.2.2.1 (br_f a (br_t b (br_f (by decide) (br_f (by decide) (br_t (by decide) ⟨hv, ?_⟩)))))))))⟩
        · rw [hcl]; exact hp
        · rw [hcl]; exact hp
      · by_cases c : zb_L 4 p2
        · obtain ⟨r, hr, rfl⟩ := c
          refine ⟨rN (4 * t + r), fun post hp => gX post (br_f a (br_t b (br_f (by decide) (br_f (by decide) (br_f (by decide) ?_))))), fun post hp => br_f d0.1 (br_t d0.2.1 (br_f d0.2.2.1 (br_t d0.2.2.2.1 (br_t d0.2.2.2.2.1 (br_f a (br_t b (br_f (by decide) (br_f (by decide) (br_f (by decide) ?_)))))))))⟩
          · refine zb_xR1 hr (br_f za_n10 (br_t (by decide) ⟨za_i4 (by omega) hr, ?_⟩))
            rw [za_c4 (by omega)]; exact hp
          · refine zb_yR1 hr (br_f za_n10 (br_t (by decide) ⟨za_i4y (by omega) hr, ?_⟩))
            rw [za_c4y (by omega)]; exact hp
        · refine ⟨-2, fun post hp => gX post (br_f a (br_t b (br_f (by decide) (br_f (by decide) (br_f (by decide) ?_))))), fun post hp => br_f d0.1 (br_t d0.2.1 (br_f d0.2.2.1 (br_t d0.2.2.2.1 (br_t d0.2.2.2.2.1 (br_f a (br_t b (br_f (by decide) (br_f (by decide) (br_f (by decide) ?_)))))))))⟩
          · exact zb_xR0 c (br_t rfl hp)
          · exact zb_yR0 c (br_t rfl hp)
      · by_cases c : zb_L 4 p2
        · obtain ⟨r, hr, rfl⟩ := c
          refine ⟨rV (4 * t + r), fun post hp => gX post (br_f a (br_t b (br_f (by decide) (br_f (by decide) (br_f (by decide) ?_))))), fun post hp => br_f d0.1 (br_t d0.2.1 (br_f d0.2.2.1 (br_t d0.2.2.2.1 (br_t d0.2.2.2.2.1 (br_f a (br_t b (br_f (by decide) (br_f (by decide) (br_f (by decide) ?_)))))))))⟩
          · refine zb_xR1 hr (br_f za_n10 (br_f (by decide) ⟨za_i4 (by omega) hr, ?_⟩))
            rw [za_c4 (by omega)]; exact hp
          · refine zb_yR1 hr (br_f za_n10 (br_f (by decide) ⟨za_i4y (by omega) hr, ?_⟩))
            rw [za_c4y (by omega)]; exact hp
        · refine ⟨-2, fun post hp => gX post (br_f a (br_t b (br_f (by decide) (br_f (by decide) (br_f (by decide) ?_))))), fun post hp => br_f d0.1 (br_t d0.2.1 (br_f d0.2.2.1 (br_t d0.2.2.2.1 (br_t d0.2.2.2.2.1 (br_f a (br_t b (br_f (by decide) (br_f (by decide) (br_f (by decide) ?_)))))))))⟩
          · exact zb_xR0 c (br_t rfl hp)
          · exact zb_yR0 c (br_t rfl hp)
    · exact ⟨-2, fun post hp => gX post (br_f a (br_f b hp)), fun post hp => br_f d0.1 (br_t d0.2.1 (br_f d0.2.2.1 (br_t d0.2.2.2.1 (br_t d0.2.2.2.2.1 (br_f a (br_f b hp))))))⟩
end ZK
theorem i_vc_look {k : Nat} {u : SX} {v : SY} (I : i_Rel k u v) (hk : k + 5 ≤ 2563) (v1 : Int32) (v2 : Int32) (v3 : Int32) : wpX_look (fun r => wpY_look (fun r' => r' = r ∧ i_Rel (k + 5) u v) v v1 v2 v3) u v1 v2 v3 := by
  refine I (fun u v => wpX_look (fun r => wpY_look (fun r' => r' = r ∧ i_Rel (k + 5) u v) v v1 v2 v3) u v1 v2 v3) ?_
  intro L N M F wl tg ld gp hf sn fn ma mr so he sl sg ss wL wN wC wF fL fE fR rN rV fa wx wm wy wk ol os oF h
  have h0 := h
  obtain ⟨⟨hL, hN, hT, hS, hM⟩, hK, hB, hfn, hhe, hf', hr⟩ := h
  have key : ∃ r : Int32, (∀ post : Int32 → Prop, post r → wpX_look post (nI L, nI N, nI M, wl, nI F, tg, ld, gp, hf, sn, fn, ma, mr, so, he, sl, sg, ss, wL, wN, wC, wF, fL, fE, fR, rN, rV) v1 v2 v3) ∧ (∀ post : Int32 → Prop, post r → wpY_look post (nI L, nI N, nI M, nI F, tg, ld, so, he, sn, fn, hf, ma, mr, fa, fL, fE, fR, rN, rV, wx, wm, wy, wk, ol, os, oF) v1 v2 v3) := by
    by_cases a : v1 < 0
    · exact ⟨-2, fun post hp => br_t a hp, fun post hp => br_t a hp⟩
    · by_cases b : v1 ≤ 13
      · obtain ⟨q, hq, rfl⟩ := nI_of2 (M := 13) (n := 13) (by decide) a b
        by_cases q2 : q < 2
        · exact zk_cell hL hN q2
        · by_cases q5 : q = 5
          · subst q5
            exact zk_meth hL hN
          · by_cases q8 : q = 8
            · subst q8
              exact ⟨nI F, fun post hp => br_f a (br_t b (br_t rfl hp)), fun post hp => br_f a (br_t b (br_t rfl hp))⟩
            · by_cases q8' : q < 8
              · exact zk_cls hL hN (by omega)
              · exact zk_fr (by omega) (by omega)
      · exact ⟨-2, fun post hp => br_f a (br_f b hp), fun post hp => br_f a (br_f b hp)⟩
  obtain ⟨r, HX, HY⟩ := key
  exact HX _ (HY _ ⟨rfl, zi_mk h0⟩)
end
section
/-! load, make, widen -/
theorem zs_2 {L N : Nat} {v : Int32} (h : zb_C L N v) (hL : L ≤ 4) (hN : N ≤ 8) : (-2) < v := Int32.lt_of_lt_of_le (by decide) (zb_Cp h hL hN)
theorem i_vc_load {k : Nat} {u : SX} {v : SY} (I : i_Rel k u v) (hk : k + 5 ≤ 2563) (v1 : Int32) (v2 : Int32) : wpX_load (fun r u' => wpY_load (fun r' v' => r' = r ∧ i_Rel (k + 5) u' v') v v1 v2) u v1 v2 := by
  refine I (fun u v => wpX_load (fun r u' => wpY_load (fun r' v' => r' = r ∧ i_Rel (k + 5) u' v') v v1 v2) u v1 v2) ?_
  intro L N M F wl tg ld gp hf sn fn ma mr so he sl sg ss wL wN wC wF fL fE fR rN rV fa wx wm wy wk ol os oF h
  have h0 := h
  obtain ⟨hT, hK, hB, hfn, hhe, hf', hr⟩ := h
  have hL := hT.1
  have hN := hT.2.1
  have h01 := hK.2.2.2.2.2
  unfold wpX_load
  by_cases a : zb_L L v1
  · obtain ⟨l, hl, rfl⟩ := a
    refine zb_xL1 hl (by omega) (br_f za_n10 ?_)
    by_cases b : zb_L N v2
    · obtain ⟨n, hn, rfl⟩ := b
      refine zb_xN1 hn hN (br_f za_n10 ?_)
      refine zc_xsave ?_
      obtain ⟨r, wl', ld', so', gp', fa', wL', wN', wC', wF', wx', wm', wy', wk', hK', hr', hF, HX, HY⟩ := zl_load (mf := nI M) (wl := wl) (fr := nI F) (tg := tg) (ld := ld) (gp := gp) (hf := hf) (sn := sn) (fn := fn) (ma := ma) (mr := mr) (so := so) (he := he) (sl := zu_mx 32 ld sl) (sg := zu_mx 32 gp sg) (ss := zu_mx 32 so ss) (wL := wL) (wN := wN) (wC := wC) (wF := wF) (fL := fL) (fE := fE) (fR := fR) (rN := rN) (rV := rV) (fa := fa) (wx := wx) (wm := wm) (wy := wy) (wk := wk) (ol := zu_mx 32 ld ol) (os := zu_mx 32 so os) (oF := zu_mx 128 fa oF) hT hK hl hn
      refine HX _ ?_
      rcases hr' with hn' | hC
      · refine zi_xu hF (zl_n2 hn') ?_
        unfold wpY_load
        refine zb_yL1 hl (by omega) (br_f za_n10 ?_)
        refine zb_yN1 hn hN (br_f za_n10 ?_)
        refine zc_ysave h01 ?_
        refine HY _ (br_f (zl_nn hn') ?_)
        exact zi_yu hF hK ⟨rfl, zi_mk h0⟩
      · refine zc_xkeep (zs_2 hC hL hN) ?_
        unfold wpY_load
        refine zb_yL1 hl (by omega) (br_f za_n10 ?_)
        refine zb_yN1 hn hN (br_f za_n10 ?_)
        refine zc_ysave h01 ?_
        exact HY _ (br_t (zb_Cp hC hL hN) ⟨rfl, zi_mk ⟨hT, hK', hB, hfn, hhe, hf', hr⟩⟩)
    · refine zb_xN0 b hN (br_t rfl ?_)
      unfold wpY_load
      refine zb_yL1 hl (by omega) (br_f za_n10 ?_)
      exact zb_yN0 b hN (br_t rfl ⟨rfl, zi_mk h0⟩)
  · refine zb_xL0 a (by omega) (br_t rfl ?_)
    unfold wpY_load
    exact zb_yL0 a (by omega) (br_t rfl ⟨rfl, zi_mk h0⟩)
theorem i_vc_make {k : Nat} {u : SX} {v : SY} (I : i_Rel k u v) (hk : k + 5 ≤ 2563) (v1 : Int32) (v2 : Int32) : wpX_make (fun r u' => wpY_make (fun r' v' => r' = r ∧ i_Rel (k + 5) u' v') v v1 v2) u v1 v2 := by
  refine I (fun u v => wpX_make (fun r u' => wpY_make (fun r' v' => r' = r ∧ i_Rel (k + 5) u' v') v v1 v2) u v1 v2) ?_
  intro L N M F wl tg ld gp hf sn fn ma mr so he sl sg ss wL wN wC wF fL fE fR rN rV fa wx wm wy wk ol os oF h
  have h0 := h
  obtain ⟨hT, hK, hB, hfn, hhe, hf', hr⟩ := h
  have hL := hT.1
  have hN := hT.2.1
  have h01 := hK.2.2.2.2.2
  unfold wpX_make
  refine zb_xK hN (by omega) (fun z => ?_) (fun z zF => ?_) (fun z zF => ?_)
  · refine br_f (by decide) ?_
    unfold wpY_make
    refine zc_yready h01 hN (by omega) (fun _ => ?_) (fun y => absurd y z) (fun y => absurd y z)
    exact br_f (by decide) ⟨rfl, zi_mk h0⟩
  · refine br_f (by decide) ?_
    unfold wpY_make
    refine zc_yready h01 hN (by omega) (fun y => absurd z y) (fun _ _ => ?_) (fun _ y => by omega)
    exact br_f (by decide) ⟨rfl, zi_mk h0⟩
  · refine br_t rfl ?_
    have z0 := z
    obtain ⟨⟨q, hq4, rfl⟩, n, hn, rfl⟩ := z
    obtain ⟨⟨l, hl, eL⟩, _⟩ := hf' (F - 1) (by omega)
    have e1 : nI F - 1 = nI (F - 1) := za_p zF
    have hv1 : vp_in (nI F - 1) 8 := pk_in (F - 1) 8 (by omega) e1
    have ec : fL (nI F - 1).toNatClampNeg = nI l := by rw [e1, nI_clamp (by omega)]; exact eL
    refine zc_xsave ⟨hv1, ?_⟩
    rw [ec]
    obtain ⟨r, wl', ld', so', gp', fa', wL', wN', wC', wF', wx', wm', wy', wk', hK', hr', hF, HX, HY⟩ := zl_load (mf := nI M) (wl := wl) (fr := nI F) (tg := tg) (ld := ld) (gp := gp) (hf := hf) (sn := sn) (fn := fn) (ma := ma) (mr := mr) (so := so) (he := he) (sl := zu_mx 32 ld sl) (sg := zu_mx 32 gp sg) (ss := zu_mx 32 so ss) (wL := wL) (wN := wN) (wC := wC) (wF := wF) (fL := fL) (fE := fE) (fR := fR) (rN := rN) (rV := rV) (fa := fa) (wx := wx) (wm := wm) (wy := wy) (wk := wk) (ol := zu_mx 32 ld ol) (os := zu_mx 32 so os) (oF := zu_mx 128 fa oF) hT hK hl hn
    refine HX _ ?_
    rcases hr' with hn' | hC
    · refine br_f (zl_nn hn') ?_
      refine zi_xu hF (zl_n2 hn') ?_
      unfold wpY_make
      refine zc_yready h01 hN (by omega) (fun y => absurd z0 y) (fun _ y => by omega) (fun _ _ => br_t rfl ⟨hv1, ?_⟩)
      rw [ec]
      refine HY _ (br_f (zl_nn hn') ?_)
      exact zi_yu hF hK ⟨rfl, zi_mk h0⟩
    · refine br_t (zb_Cp hC hL hN) ?_
      refine zc_xtop zF (by omega) hq4 ?_
      unfold wpY_make
      refine zc_yready h01 hN (by omega) (fun y => absurd z0 y) (fun _ y => by omega) (fun _ _ => br_t rfl ⟨hv1, ?_⟩)
      rw [ec]
      refine HY _ (br_t (zb_Cp hC hL hN) ?_)
      rw [e1]
      refine zc_yreg (by omega) hq4 ⟨rfl, ?_⟩
      exact zi_mk ⟨hT, hK', hB, hfn, hhe, hf', zi_rs hr (Or.inr ⟨n, hn, rfl⟩) (Or.inr hC) (fun e => absurd e (za_n1 (by omega)))⟩
theorem i_vc_widen {k : Nat} {u : SX} {v : SY} (I : i_Rel k u v) (hk : k + 5 ≤ 2563) (v1 : Int32) (v2 : Int32) : wpX_widen (fun r u' => wpY_widen (fun r' v' => r' = r ∧ i_Rel (k + 5) u' v') v v1 v2) u v1 v2 := by
  refine I (fun u v => wpX_widen (fun r u' => wpY_widen (fun r' v' => r' = r ∧ i_Rel (k + 5) u' v') v v1 v2) u v1 v2) ?_
  intro L N M F wl tg ld gp hf sn fn ma mr so he sl sg ss wL wN wC wF fL fE fR rN rV fa wx wm wy wk ol os oF h
  have h0 := h
  obtain ⟨hT, hK, hB, hfn, hhe, hf', hr⟩ := h
  have hL := hT.1
  have hN := hT.2.1
  have h01 := hK.2.2.2.2.2
  unfold wpX_widen
  refine zb_xK hN (by omega) (fun z => ?_) (fun z zF => ?_) (fun z zF => ?_)
  · refine br_f (by decide) ?_
    unfold wpY_widen
    refine zc_yready h01 hN (by omega) (fun _ => ?_) (fun y => absurd y z) (fun y => absurd y z)
    exact br_f (by decide) ⟨rfl, zi_mk h0⟩
  · refine br_f (by decide) ?_
    unfold wpY_widen
    refine zc_yready h01 hN (by omega) (fun y => absurd z y) (fun _ _ => ?_) (fun _ y => by omega)
    exact br_f (by decide) ⟨rfl, zi_mk h0⟩
  · refine br_t rfl ?_
    have z0 := z
    obtain ⟨⟨q, hq4, rfl⟩, n, hn, rfl⟩ := z
    obtain ⟨⟨l, hl, eL⟩, _⟩ := hf' (F - 1) (by omega)
    have e1 : nI F - 1 = nI (F - 1) := za_p zF
    have cl1 : (nI (F - 1)).toNatClampNeg = F - 1 := nI_clamp (by omega)
    have hv8 : vp_in (nI (F - 1)) 8 := vp_in_nI (by omega) (by omega)
    have hv1 : vp_in (nI F - 1) 8 := pk_in (F - 1) 8 (by omega) e1
    have hvi : vp_in (nI (4 * (F - 1) + q)) 32 := vp_in_nI (by omega) (by omega)
    have hci : (nI (4 * (F - 1) + q)).toNatClampNeg = 4 * (F - 1) + q := nI_clamp (by omega)
    refine zc_xsave ?_
    unfold wpX_widenStep
    refine ⟨hv1, nm_r (e' := nI l) (by rw [e1, cl1]; exact eL) (nm_r (e' := nI (4 * (F - 1) + q)) (by rw [e1, za_4]) ⟨hvi, nm_r (e' := rN (4 * (F - 1) + q)) (by rw [hci]) ?_⟩)⟩
    by_cases m1 : rN (4 * (F - 1) + q) = -1
    · refine br_t m1 ?_
      refine zi_xu (zl_F0 (fa := fa)) (by decide) ?_
      unfold wpY_widen
      refine zc_yready h01 hN (by omega) (fun y => absurd z0 y) (fun _ y => by omega) (fun _ _ => br_t rfl ?_)
      refine nm_r e1 ⟨hv8, nm_r (e' := nI l) (by rw [cl1]; exact eL) ⟨za_i4y (by omega) hq4, nm_r (e' := rN (4 * (F - 1) + q)) (by rw [za_c4y (by omega)]) ?_⟩⟩
      exact br_t m1 ⟨rfl, zi_mk h0⟩
    · refine br_f m1 ?_
      by_cases m2 : rN (4 * (F - 1) + q) = nI n
      · refine br_t m2 ?_
        refine zc_xkeep (by decide) ?_
        unfold wpY_widen
        refine zc_yready h01 hN (by omega) (fun y => absurd z0 y) (fun _ y => by omega) (fun _ _ => br_t rfl ?_)
        refine nm_r e1 ⟨hv8, nm_r (e' := nI l) (by rw [cl1]; exact eL) ⟨za_i4y (by omega) hq4, nm_r (e' := rN (4 * (F - 1) + q)) (by rw [za_c4y (by omega)]) ?_⟩⟩
        exact br_f m1 (br_t m2 ⟨rfl, zi_mk h0⟩)
      · refine br_f m2 ?_
        obtain ⟨⟨a, ha, ea⟩, _, _⟩ : (∃ a, a < N ∧ rN (4 * (F - 1) + q) = nI a) ∧ zb_V L N (rV (4 * (F - 1) + q)) ∧ True := by
          obtain ⟨x1, x2, _⟩ := hr (4 * (F - 1) + q) (by omega)
          rcases x1 with e | e
          · exact absurd e m1
          · exact ⟨e, x2, trivial⟩
        obtain ⟨r, wl1, ld1, so1, gp1, fa1, wL1, wN1, wC1, wF1, wx1, wm1, wy1, wk1, hK1, hr1, hF1, HX1, HY1⟩ := zl_load (mf := nI M) (wl := wl) (fr := nI F) (tg := tg) (ld := ld) (gp := gp) (hf := hf) (sn := sn) (fn := fn) (ma := ma) (mr := mr) (so := so) (he := he) (sl := zu_mx 32 ld sl) (sg := zu_mx 32 gp sg) (ss := zu_mx 32 so ss) (wL := wL) (wN := wN) (wC := wC) (wF := wF) (fL := fL) (fE := fE) (fR := fR) (rN := rN) (rV := rV) (fa := fa) (wx := wx) (wm := wm) (wy := wy) (wk := wk) (ol := zu_mx 32 ld ol) (os := zu_mx 32 so os) (oF := zu_mx 128 fa oF) hT hK hl ha
        rw [ea]
        refine HX1 _ ?_
        rcases hr1 with hn1 | hC1
        · refine br_f (zl_nn hn1) ?_
          refine zi_xu hF1 (zl_n2 hn1) ?_
          unfold wpY_widen
          refine zc_yready h01 hN (by omega) (fun y => absurd z0 y) (fun _ y => by omega) (fun _ _ => br_t rfl ?_)
          refine nm_r e1 ⟨hv8, nm_r (e' := nI l) (by rw [cl1]; exact eL) ⟨za_i4y (by omega) hq4, nm_r (e' := rN (4 * (F - 1) + q)) (by rw [za_c4y (by omega)]) ?_⟩⟩
          refine br_f m1 (br_f m2 ?_)
          rw [ea]
          refine HY1 _ (br_f (zl_nn hn1) ?_)
          exact zi_yu hF1 hK ⟨rfl, zi_mk h0⟩
        · refine br_t (zb_Cp hC1 hL hN) ?_
          obtain ⟨s, wl2, ld2, so2, gp2, fa2, wL2, wN2, wC2, wF2, wx2, wm2, wy2, wk2, hK2, hr2, hF2, HX2, HY2⟩ := zl_load (mf := nI M) (wl := wl1) (fr := nI F) (tg := tg) (ld := ld1) (gp := gp1) (hf := hf) (sn := sn) (fn := fn) (ma := ma) (mr := mr) (so := so1) (he := he) (sl := zu_mx 32 ld sl) (sg := zu_mx 32 gp sg) (ss := zu_mx 32 so ss) (wL := wL1) (wN := wN1) (wC := wC1) (wF := wF1) (fL := fL) (fE := fE) (fR := fR) (rN := rN) (rV := rV) (fa := fa1) (wx := wx1) (wm := wm1) (wy := wy1) (wk := wk1) (ol := zu_mx 32 ld ol) (os := zu_mx 32 so os) (oF := zu_mx 128 fa oF) hT hK1 hl hn
          have hF := zl_Ft hF1 hF2
          refine HX2 _ ?_
          rcases hr2 with hn2 | hC2
          · refine br_f (zl_nn hn2) ?_
            refine zi_xu hF (zl_n2 hn2) ?_
            unfold wpY_widen
            refine zc_yready h01 hN (by omega) (fun y => absurd z0 y) (fun _ y => by omega) (fun _ _ => br_t rfl ?_)
            refine nm_r e1 ⟨hv8, nm_r (e' := nI l) (by rw [cl1]; exact eL) ⟨za_i4y (by omega) hq4, nm_r (e' := rN (4 * (F - 1) + q)) (by rw [za_c4y (by omega)]) ?_⟩⟩
            refine br_f m1 (br_f m2 ?_)
            rw [ea]
            refine HY1 _ (br_t (zb_Cp hC1 hL hN) ?_)
            refine HY2 _ (br_f (zl_nn hn2) ?_)
            exact zi_yu hF hK ⟨rfl, zi_mk h0⟩
          · refine br_t (zb_Cp hC2 hL hN) ?_
            obtain ⟨c, hU⟩ := zi_U hL hN hK2.2.2.1 hC1
            obtain ⟨t, ht, AX, AY⟩ := ze_isA (lc := nI L) (nc := nI N) (mf := nI M) (wl := wl2) (fr := nI F) (tg := tg) (ld := ld2) (gp := gp2) (hf := hf) (sn := sn) (fn := fn) (ma := ma) (mr := mr) (so := so2) (he := he) (sl := zu_mx 32 ld sl) (sg := zu_mx 32 gp sg) (ss := zu_mx 32 so ss) (wL := wL2) (wN := wN2) (wC := wC2) (wF := wF2) (fL := fL) (fE := fE) (fR := fR) (rN := rN) (rV := rV) (fa := fa2) (wx := wx2) (wm := wm2) (wy := wy2) (wk := wk2) (ol := zu_mx 32 ld ol) (os := zu_mx 32 so os) (oF := zu_mx 128 fa oF) (zb_Cn hC2 hL hN) hU
            refine AX _ ?_
            rcases ht with rfl | rfl
            · refine br_t rfl ?_
              refine zi_xu hF (by decide) ?_
              unfold wpY_widen
              refine zc_yready h01 hN (by omega) (fun y => absurd z0 y) (fun _ y => by omega) (fun _ _ => br_t rfl ?_)
              refine nm_r e1 ⟨hv8, nm_r (e' := nI l) (by rw [cl1]; exact eL) ⟨za_i4y (by omega) hq4, nm_r (e' := rN (4 * (F - 1) + q)) (by rw [za_c4y (by omega)]) ?_⟩⟩
              refine br_f m1 (br_f m2 ?_)
              rw [ea]
              refine HY1 _ (br_t (zb_Cp hC1 hL hN) ?_)
              refine HY2 _ (br_t (zb_Cp hC2 hL hN) ?_)
              refine AY _ (br_t rfl ?_)
              exact zi_yu hF hK ⟨rfl, zi_mk h0⟩
            · refine br_f za_n10 ⟨hvi, nm_r (e' := upd rN (4 * (F - 1) + q) (nI n)) (by rw [hci]) ?_⟩
              refine zc_xkeep (by decide) ?_
              unfold wpY_widen
              refine zc_yready h01 hN (by omega) (fun y => absurd z0 y) (fun _ y => by omega) (fun _ _ => br_t rfl ?_)
              refine nm_r e1 ⟨hv8, nm_r (e' := nI l) (by rw [cl1]; exact eL) ⟨za_i4y (by omega) hq4, nm_r (e' := rN (4 * (F - 1) + q)) (by rw [za_c4y (by omega)]) ?_⟩⟩
              refine br_f m1 (br_f m2 ?_)
              rw [ea]
              refine HY1 _ (br_t (zb_Cp hC1 hL hN) ?_)
              refine HY2 _ (br_t (zb_Cp hC2 hL hN) ?_)
              refine AY _ (br_f za_n10 ⟨za_i4y (by omega) hq4, nm_r (e' := upd rN (4 * (F - 1) + q) (nI n)) (by rw [za_c4y (by omega)]) ⟨rfl, ?_⟩⟩)
              refine zi_mk ⟨hT, hK2, hB, hfn, hhe, hf', ?_⟩
              have hh := zi_rs (i := 4 * (F - 1) + q) (a := nI n) (b := rV (4 * (F - 1) + q)) hr (Or.inr ⟨n, hn, rfl⟩) (hr (4 * (F - 1) + q) (by omega)).2.1 (fun e => absurd e (za_n1 (by omega)))
              rw [zu_id (f := rV) rfl] at hh
              exact hh
end
section
/-! get and put -/
theorem i_vc_get {k : Nat} {u : SX} {v : SY} (I : i_Rel k u v) (hk : k + 5 ≤ 2563) (v1 : Int32) (v2 : Int32) : wpX_get (fun r u' => wpY_get (fun r' v' => r' = r ∧ i_Rel (k + 5) u' v') v v1 v2) u v1 v2 := by
  refine I (fun u v => wpX_get (fun r u' => wpY_get (fun r' v' => r' = r ∧ i_Rel (k + 5) u' v') v v1 v2) u v1 v2) ?_
  intro L N M F wl tg ld gp hf sn fn ma mr so he sl sg ss wL wN wC wF fL fE fR rN rV fa wx wm wy wk ol os oF h
  have h0 := h
  obtain ⟨hT, hK, hB, hfn, hhe, hf', hr⟩ := h
  have hL := hT.1
  have hN := hT.2.1
  have h01 := hK.2.2.2.2.2
  unfold wpX_get
  refine zb_xK hN (by omega) (fun z => ?_) (fun z zF => ?_) (fun z zF => ?_)
  · refine br_f (by decide) ?_
    unfold wpY_get wpY_access
    refine zc_yready h01 hN (by omega) (fun _ => ?_) (fun y => absurd y z) (fun y => absurd y z)
    exact br_f (by decide) ⟨rfl, zi_mk h0⟩
  · refine br_f (by decide) ?_
    unfold wpY_get wpY_access
    refine zc_yready h01 hN (by omega) (fun y => absurd z y) (fun _ _ => ?_) (fun _ y => by omega)
    exact br_f (by decide) ⟨rfl, zi_mk h0⟩
  · refine br_t rfl ?_
    have z0 := z
    obtain ⟨⟨q, hq4, rfl⟩, n, hn, rfl⟩ := z
    obtain ⟨⟨l, hl, eL⟩, _⟩ := hf' (F - 1) (by omega)
    have e1 : nI F - 1 = nI (F - 1) := za_p zF
    have cl1 : (nI (F - 1)).toNatClampNeg = F - 1 := nI_clamp (by omega)
    have hv8 : vp_in (nI (F - 1)) 8 := vp_in_nI (by omega) (by omega)
    have hv1 : vp_in (nI F - 1) 8 := pk_in (F - 1) 8 (by omega) e1
    have hvi : vp_in (nI (4 * (F - 1) + q)) 32 := vp_in_nI (by omega) (by omega)
    have hci : (nI (4 * (F - 1) + q)).toNatClampNeg = 4 * (F - 1) + q := nI_clamp (by omega)
    have hviy : vp_in (nI (F - 1) * 4 + nI q) 32 := za_i4y (by omega) hq4
    have hciy : (nI (F - 1) * 4 + nI q).toNatClampNeg = 4 * (F - 1) + q := za_c4y (by omega)
    obtain ⟨r, wl1, ld1, so1, gp1, fa1, wL1, wN1, wC1, wF1, wx1, wm1, wy1, wk1, hK1, hr1, hF1, HX1, HY1⟩ := zl_load (mf := nI M) (wl := wl) (fr := nI F) (tg := tg) (ld := ld) (gp := gp) (hf := hf) (sn := sn) (fn := fn) (ma := ma) (mr := mr) (so := so) (he := he) (sl := zu_mx 32 ld sl) (sg := zu_mx 32 gp sg) (ss := zu_mx 32 so ss) (wL := wL) (wN := wN) (wC := wC) (wF := wF) (fL := fL) (fE := fE) (fR := fR) (rN := rN) (rV := rV) (fa := fa) (wx := wx) (wm := wm) (wy := wy) (wk := wk) (ol := zu_mx 32 ld ol) (os := zu_mx 32 so os) (oF := zu_mx 128 fa oF) hT hK hl hn
    refine zc_xsave ?_
    unfold wpX_getStep
    refine ⟨hv1, nm_r (e' := nI l) (by rw [e1, cl1]; exact eL) (HX1 _ ?_)⟩
    rcases hr1 with hn1 | hC1
    · refine br_f (zl_nn hn1) ?_
      refine zi_xu hF1 (zl_n2 hn1) ?_
      unfold wpY_get wpY_access
      refine zc_yready h01 hN (by omega) (fun y => absurd z0 y) (fun _ y => by omega) (fun _ _ => br_t rfl ?_)
      refine nm_r e1 ⟨hv8, nm_r (e' := nI l) (by rw [cl1]; exact eL) ?_⟩
      refine HY1 _ (br_f (zl_nn hn1) ?_)
      exact zi_yu hF1 hK ⟨rfl, zi_mk h0⟩
    · refine br_t (zb_Cp hC1 hL hN) ?_
      obtain ⟨w, hU⟩ := zi_U hL hN hK1.2.2.1 hC1
      obtain ⟨o, ho, OX, OY⟩ := ze_fo (lc := nI L) (nc := nI N) (mf := nI M) (wl := wl1) (fr := nI F) (tg := tg) (ld := ld1) (gp := gp1) (hf := hf) (sn := sn) (fn := fn) (ma := ma) (mr := mr) (so := so1) (he := he) (sl := zu_mx 32 ld sl) (sg := zu_mx 32 gp sg) (ss := zu_mx 32 so ss) (wL := wL1) (wN := wN1) (wC := wC1) (wF := wF1) (fL := fL) (fE := fE) (fR := fR) (rN := rN) (rV := rV) (fa := fa1) (wx := wx1) (wm := wm1) (wy := wy1) (wk := wk1) (ol := zu_mx 32 ld ol) (os := zu_mx 32 so os) (oF := zu_mx 128 fa oF) hU
      refine OX _ ?_
      · rcases ho with rfl | ⟨c, hc, hcL, hcN, rfl, hfc⟩
        · refine br_t rfl ?_
          refine zi_xu hF1 (by decide) ?_
          unfold wpY_get wpY_access
          refine zc_yready h01 hN (by omega) (fun y => absurd z0 y) (fun _ y => by omega) (fun _ _ => br_t rfl ?_)
          refine nm_r e1 ⟨hv8, nm_r (e' := nI l) (by rw [cl1]; exact eL) ?_⟩
          refine HY1 _ (br_t (zb_Cp hC1 hL hN) ?_)
          refine OY _ _ _ _ _ (br_t rfl ?_)
          exact zi_yu hF1 hK ⟨rfl, zi_mk h0⟩
        · skip
          have hc8 : c / 8 < 4 := by omega
          have ho1 : ¬ nI c = -1 := za_n1 (by omega)
          have hvc : vp_in (nI c) 32 := vp_in_nI hc (by omega)
          have hcc : (nI c).toNatClampNeg = c := nI_clamp (by omega)
          obtain ⟨f, hfN, ef⟩ : ∃ f, f < N ∧ fn c = nI f := by
            rcases hfn c hc with e | e
            · exact absurd e hfc
            · exact e
          have hG2 := zg_tie (n := f) (x := l) (y := c / 8) hK1.2.2.2 (by omega) (by omega) hc8
          have hK2 : zl_K L N ld1 so1 (zg_m gp1 f (gp1 (8 * l + f)) (gp1 (8 * (c / 8) + f)) 4) (upd fa1 (16 * f + (4 * l + c / 8)) 1) := ⟨hK1.1, hK1.2.1, hK1.2.2.1, hG2⟩
          have hF2 : zl_F ld so gp fa ld1 so1 (zg_m gp1 f (gp1 (8 * l + f)) (gp1 (8 * (c / 8) + f)) 4) (upd fa1 (16 * f + (4 * l + c / 8)) 1) := ⟨hF1.1, hF1.2.1, fun j hj => by rw [zg_m32 hj, hF1.2.2.1 j hj], fun j hj => by rw [pk_un (by omega), hF1.2.2.2 j hj]⟩
          obtain ⟨t, ht, FX, FY⟩ := zi_fits (v := he c) (vx := nI l) (vm := nI f) (mf := nI M) (wl := wl1) (fr := nI F) (tg := tg) (ld := ld1) (gp := zg_m gp1 f (gp1 (8 * l + f)) (gp1 (8 * (c / 8) + f)) 4) (hf := hf) (sn := sn) (fn := fn) (ma := ma) (mr := mr) (so := so1) (he := he) (sl := zu_mx 32 ld sl) (sg := zu_mx 32 gp sg) (ss := zu_mx 32 so ss) (wL := wL1) (wN := wN1) (wC := wC1) (wF := wF1) (fL := fL) (fE := fE) (fR := fR) (rN := rN) (rV := rV) (fa := upd fa1 (16 * f + (4 * l + c / 8)) 1) (wx := wx1) (wm := wm1) (wy := wy1) (wk := wk1) (ol := zu_mx 32 ld ol) (os := zu_mx 32 so os) (oF := zu_mx 128 fa oF) hL hN hK2 hl rfl (by
            rcases hhe c hc with e | e
            · exact Or.inl e
            · exact Or.inr ⟨e, f, hfN, rfl⟩)
          refine br_f ho1 ⟨hvc, nm_r (e' := nI f) (by rw [hcc]; exact ef) ⟨za_n80, ?_⟩⟩
          refine zg_xadd (show f < 8 by omega) (show l < 4 by omega) hc8 rfl (za_d8 (by omega)) ?_
          refine zd_xcl (fun hk7 => br_f za_n10 ?_) (fun hk7 => br_t rfl ⟨hvc, ?_⟩)
          · refine zi_xu hF2 (by decide) ?_
            unfold wpY_get wpY_access
            refine zc_yready h01 hN (by omega) (fun y => absurd z0 y) (fun _ y => by omega) (fun _ _ => br_t rfl ?_)
            refine nm_r e1 ⟨hv8, nm_r (e' := nI l) (by rw [cl1]; exact eL) ?_⟩
            refine HY1 _ (br_t (zb_Cp hC1 hL hN) ?_)
            refine OY _ _ _ _ _ (br_f ho1 ⟨hvc, nm_r (e' := nI f) (by rw [hcc]; exact ef) (br_t rfl ⟨hvc, br_t rfl ⟨za_n80, ?_⟩⟩)⟩)
            refine zg_yadd (show f < 8 by omega) (show l < 4 by omega) hc8 rfl (za_d8 (by omega)) ?_
            refine zd_ycl hG2 (zl_in hK1.1) hL hN (fun _ => br_f za_n10 ?_) (fun z => absurd hk7 z)
            exact zi_yu hF2 hK ⟨rfl, zi_mk h0⟩
          · rw [hcc]
            refine FX _ ?_
            have yy : ∀ post : Int32 → SY → Prop, wY_access_216 post (nI q) 0 (nI (F - 1)) (nI c) (nI f) (he c) (nI l) (he c) (nI L) (nI N) (nI M) (nI F) tg ld1 so1 he sn fn hf ma mr (upd fa1 (16 * f + (4 * l + c / 8)) 1) fL fE fR rN rV wx1 wm1 wy1 wk1 (zu_mx 32 ld ol) (zu_mx 32 so os) (zu_mx 128 fa oF) → wpY_get post (nI L, nI N, nI M, nI F, tg, ld, so, he, sn, fn, hf, ma, mr, fa, fL, fE, fR, rN, rV, wx, wm, wy, wk, ol, os, oF) (nI q) (nI n) := by
              intro post h216
              unfold wpY_get wpY_access
              refine zc_yready h01 hN (by omega) (fun y => absurd z0 y) (fun _ y => by omega) (fun _ _ => br_t rfl ?_)
              refine nm_r e1 ⟨hv8, nm_r (e' := nI l) (by rw [cl1]; exact eL) ?_⟩
              refine HY1 _ (br_t (zb_Cp hC1 hL hN) ?_)
              refine OY _ _ _ _ _ (br_f ho1 ⟨hvc, nm_r (e' := nI f) (by rw [hcc]; exact ef) (br_t rfl ⟨hvc, br_t rfl ⟨za_n80, ?_⟩⟩)⟩)
              refine zg_yadd (show f < 8 by omega) (show l < 4 by omega) hc8 rfl (za_d8 (by omega)) ?_
              refine zd_ycl hG2 (zl_in hK1.1) hL hN (fun z => absurd z hk7) (fun _ => br_t rfl (br_t rfl ?_))
              rw [hcc]
              exact h216
            rcases ht with rfl | rfl
            · refine br_t rfl ?_
              refine zi_xu hF2 (by decide) ?_
              refine yy _ (FY _ (br_t rfl ?_))
              exact zi_yu hF2 hK ⟨rfl, zi_mk h0⟩
            · refine br_f za_n10 ⟨hvc, ?_⟩
              refine zc_xtop zF (by omega) hq4 ?_
              refine zc_xkeep (by decide) ?_
              refine yy _ (FY _ (br_f za_n10 (br_t rfl ?_)))
              refine zc_yreg (by omega) hq4 ⟨rfl, ?_⟩
              exact zi_mk ⟨hT, hK2, hB, hfn, hhe, hf', zi_rs hr (Or.inr ⟨f, hfN, rfl⟩) (hhe c hc) (fun e => absurd e (za_n1 (by omega)))⟩
end
section
/-! put -/
theorem i_vc_put {k : Nat} {u : SX} {v : SY} (I : i_Rel k u v) (hk : k + 5 ≤ 2563) (v1 : Int32) (v2 : Int32) : wpX_put (fun r u' => wpY_put (fun r' v' => r' = r ∧ i_Rel (k + 5) u' v') v v1 v2) u v1 v2 := by
  refine I (fun u v => wpX_put (fun r u' => wpY_put (fun r' v' => r' = r ∧ i_Rel (k + 5) u' v') v v1 v2) u v1 v2) ?_
  intro L N M F wl tg ld gp hf sn fn ma mr so he sl sg ss wL wN wC wF fL fE fR rN rV fa wx wm wy wk ol os oF h
  have h0 := h
  obtain ⟨hT, hK, hB, hfn, hhe, hf', hr⟩ := h
  have hL := hT.1
  have hN := hT.2.1
  have h01 := hK.2.2.2.2.2
  unfold wpX_put
  refine zb_xK hN (by omega) (fun z => ?_) (fun z zF => ?_) (fun z zF => ?_)
  · refine br_f (by decide) ?_
    unfold wpY_put wpY_access
    refine zc_yready h01 hN (by omega) (fun _ => ?_) (fun y => absurd y z) (fun y => absurd y z)
    exact br_f (by decide) ⟨rfl, zi_mk h0⟩
  · refine br_f (by decide) ?_
    unfold wpY_put wpY_access
    refine zc_yready h01 hN (by omega) (fun y => absurd z y) (fun _ _ => ?_) (fun _ y => by omega)
    exact br_f (by decide) ⟨rfl, zi_mk h0⟩
  · refine br_t rfl ?_
    have z0 := z
    obtain ⟨⟨q, hq4, rfl⟩, n, hn, rfl⟩ := z
    obtain ⟨⟨l, hl, eL⟩, _⟩ := hf' (F - 1) (by omega)
    have e1 : nI F - 1 = nI (F - 1) := za_p zF
    have cl1 : (nI (F - 1)).toNatClampNeg = F - 1 := nI_clamp (by omega)
    have hv8 : vp_in (nI (F - 1)) 8 := vp_in_nI (by omega) (by omega)
    have hv1 : vp_in (nI F - 1) 8 := pk_in (F - 1) 8 (by omega) e1
    have hvi : vp_in (nI (4 * (F - 1) + q)) 32 := vp_in_nI (by omega) (by omega)
    have hci : (nI (4 * (F - 1) + q)).toNatClampNeg = 4 * (F - 1) + q := nI_clamp (by omega)
    have hviy : vp_in (nI (F - 1) * 4 + nI q) 32 := za_i4y (by omega) hq4
    have hciy : (nI (F - 1) * 4 + nI q).toNatClampNeg = 4 * (F - 1) + q := za_c4y (by omega)
    obtain ⟨r, wl1, ld1, so1, gp1, fa1, wL1, wN1, wC1, wF1, wx1, wm1, wy1, wk1, hK1, hr1, hF1, HX1, HY1⟩ := zl_load (mf := nI M) (wl := wl) (fr := nI F) (tg := tg) (ld := ld) (gp := gp) (hf := hf) (sn := sn) (fn := fn) (ma := ma) (mr := mr) (so := so) (he := he) (sl := zu_mx 32 ld sl) (sg := zu_mx 32 gp sg) (ss := zu_mx 32 so ss) (wL := wL) (wN := wN) (wC := wC) (wF := wF) (fL := fL) (fE := fE) (fR := fR) (rN := rN) (rV := rV) (fa := fa) (wx := wx) (wm := wm) (wy := wy) (wk := wk) (ol := zu_mx 32 ld ol) (os := zu_mx 32 so os) (oF := zu_mx 128 fa oF) hT hK hl hn
    refine zc_xsave ?_
    unfold wpX_putStep
    refine ⟨hv1, nm_r (e' := nI l) (by rw [e1, cl1]; exact eL) (nm_r (e' := nI (4 * (F - 1) + q)) (by rw [e1, za_4]) (HX1 _ ?_))⟩
    rcases hr1 with hn1 | hC1
    · refine br_f (zl_nn hn1) ?_
      refine zi_xu hF1 (zl_n2 hn1) ?_
      unfold wpY_put wpY_access
      refine zc_yready h01 hN (by omega) (fun y => absurd z0 y) (fun _ y => by omega) (fun _ _ => br_t rfl ?_)
      refine nm_r e1 ⟨hv8, nm_r (e' := nI l) (by rw [cl1]; exact eL) ?_⟩
      refine HY1 _ (br_f (zl_nn hn1) ?_)
      exact zi_yu hF1 hK ⟨rfl, zi_mk h0⟩
    · refine br_t (zb_Cp hC1 hL hN) ?_
      obtain ⟨w, hU⟩ := zi_U hL hN hK1.2.2.1 hC1
      obtain ⟨o, ho, OX, OY⟩ := ze_fo (lc := nI L) (nc := nI N) (mf := nI M) (wl := wl1) (fr := nI F) (tg := tg) (ld := ld1) (gp := gp1) (hf := hf) (sn := sn) (fn := fn) (ma := ma) (mr := mr) (so := so1) (he := he) (sl := zu_mx 32 ld sl) (sg := zu_mx 32 gp sg) (ss := zu_mx 32 so ss) (wL := wL1) (wN := wN1) (wC := wC1) (wF := wF1) (fL := fL) (fE := fE) (fR := fR) (rN := rN) (rV := rV) (fa := fa1) (wx := wx1) (wm := wm1) (wy := wy1) (wk := wk1) (ol := zu_mx 32 ld ol) (os := zu_mx 32 so os) (oF := zu_mx 128 fa oF) hU
      refine OX _ ?_
      · rcases ho with rfl | ⟨c, hc, hcL, hcN, rfl, hfc⟩
        · refine br_t rfl ?_
          refine zi_xu hF1 (by decide) ?_
          unfold wpY_put wpY_access
          refine zc_yready h01 hN (by omega) (fun y => absurd z0 y) (fun _ y => by omega) (fun _ _ => br_t rfl ?_)
          refine nm_r e1 ⟨hv8, nm_r (e' := nI l) (by rw [cl1]; exact eL) ?_⟩
          refine HY1 _ (br_t (zb_Cp hC1 hL hN) ?_)
          refine OY _ _ _ _ _ (br_t rfl ?_)
          exact zi_yu hF1 hK ⟨rfl, zi_mk h0⟩
        · skip
          have hc8 : c / 8 < 4 := by omega
          have ho1 : ¬ nI c = -1 := za_n1 (by omega)
          have hvc : vp_in (nI c) 32 := vp_in_nI hc (by omega)
          have hcc : (nI c).toNatClampNeg = c := nI_clamp (by omega)
          obtain ⟨f, hfN, ef⟩ : ∃ f, f < N ∧ fn c = nI f := by
            rcases hfn c hc with e | e
            · exact absurd e hfc
            · exact e
          have hG2 := zg_tie (n := f) (x := l) (y := c / 8) hK1.2.2.2 (by omega) (by omega) hc8
          have hK2 : zl_K L N ld1 so1 (zg_m gp1 f (gp1 (8 * l + f)) (gp1 (8 * (c / 8) + f)) 4) (upd fa1 (16 * f + (4 * l + c / 8)) 1) := ⟨hK1.1, hK1.2.1, hK1.2.2.1, hG2⟩
          have hF2 : zl_F ld so gp fa ld1 so1 (zg_m gp1 f (gp1 (8 * l + f)) (gp1 (8 * (c / 8) + f)) 4) (upd fa1 (16 * f + (4 * l + c / 8)) 1) := ⟨hF1.1, hF1.2.1, fun j hj => by rw [zg_m32 hj, hF1.2.2.1 j hj], fun j hj => by rw [pk_un (by omega), hF1.2.2.2 j hj]⟩
          refine br_f ho1 ⟨hvc, nm_r (e' := nI f) (by rw [hcc]; exact ef) ⟨hvi, ?_⟩⟩
          by_cases m1 : rN (4 * (F - 1) + q) = nI f
          · obtain ⟨t, ht, FX, FY⟩ := zi_fits (v := rV (4 * (F - 1) + q)) (vx := nI c / 8) (vm := nI f) (mf := nI M) (wl := wl1) (fr := nI F) (tg := tg) (ld := ld1) (gp := zg_m gp1 f (gp1 (8 * l + f)) (gp1 (8 * (c / 8) + f)) 4) (hf := hf) (sn := sn) (fn := fn) (ma := ma) (mr := mr) (so := so1) (he := he) (sl := zu_mx 32 ld sl) (sg := zu_mx 32 gp sg) (ss := zu_mx 32 so ss) (wL := wL1) (wN := wN1) (wC := wC1) (wF := wF1) (fL := fL) (fE := fE) (fR := fR) (rN := rN) (rV := rV) (fa := upd fa1 (16 * f + (4 * l + c / 8)) 1) (wx := wx1) (wm := wm1) (wy := wy1) (wk := wk1) (ol := zu_mx 32 ld ol) (os := zu_mx 32 so os) (oF := zu_mx 128 fa oF) hL hN hK2 hcL (za_d8 (by omega)) (by
              rcases (hr (4 * (F - 1) + q) (by omega)).2.1 with e | e
              · exact Or.inl e
              · exact Or.inr ⟨e, f, hfN, rfl⟩)
            refine br_t (by rw [hci]; exact m1) ⟨za_n80, ?_⟩
            refine zg_xadd (show f < 8 by omega) (show l < 4 by omega) hc8 rfl (za_d8 (by omega)) ?_
            refine zd_xcl (fun hk7 => br_f za_n10 ?_) (fun hk7 => br_t rfl ⟨hvi, za_n80, ?_⟩)
            · refine zi_xu hF2 (by decide) ?_
              unfold wpY_put wpY_access
              refine zc_yready h01 hN (by omega) (fun y => absurd z0 y) (fun _ y => by omega) (fun _ _ => br_t rfl ?_)
              refine nm_r e1 ⟨hv8, nm_r (e' := nI l) (by rw [cl1]; exact eL) ?_⟩
              refine HY1 _ (br_t (zb_Cp hC1 hL hN) ?_)
              refine OY _ _ _ _ _ (br_f ho1 ⟨hvc, nm_r (e' := nI f) (by rw [hcc]; exact ef) (br_f za_n10 ⟨hviy, br_f za_n10 ⟨hviy, br_t (by rw [hciy]; exact m1) ⟨za_n80, ?_⟩⟩⟩)⟩)
              refine zg_yadd (show f < 8 by omega) (show l < 4 by omega) hc8 rfl (za_d8 (by omega)) ?_
              refine zd_ycl hG2 (zl_in hK1.1) hL hN (fun _ => br_f za_n10 ?_) (fun z => absurd hk7 z)
              exact zi_yu hF2 hK ⟨rfl, zi_mk h0⟩
            · rw [hci]
              refine FX _ ?_
              have yy : ∀ post : Int32 → SY → Prop, wY_access_216 post (nI q) 1 (nI (F - 1)) (nI c) (nI f) (rV (4 * (F - 1) + q)) (nI c / 8) (rV (4 * (F - 1) + q)) (nI L) (nI N) (nI M) (nI F) tg ld1 so1 he sn fn hf ma mr (upd fa1 (16 * f + (4 * l + c / 8)) 1) fL fE fR rN rV wx1 wm1 wy1 wk1 (zu_mx 32 ld ol) (zu_mx 32 so os) (zu_mx 128 fa oF) → wpY_put post (nI L, nI N, nI M, nI F, tg, ld, so, he, sn, fn, hf, ma, mr, fa, fL, fE, fR, rN, rV, wx, wm, wy, wk, ol, os, oF) (nI q) (nI n) := by
                intro post h216
                unfold wpY_put wpY_access
                refine zc_yready h01 hN (by omega) (fun y => absurd z0 y) (fun _ y => by omega) (fun _ _ => br_t rfl ?_)
                refine nm_r e1 ⟨hv8, nm_r (e' := nI l) (by rw [cl1]; exact eL) ?_⟩
                refine HY1 _ (br_t (zb_Cp hC1 hL hN) ?_)
                refine OY _ _ _ _ _ (br_f ho1 ⟨hvc, nm_r (e' := nI f) (by rw [hcc]; exact ef) (br_f za_n10 ⟨hviy, br_f za_n10 ⟨hviy, br_t (by rw [hciy]; exact m1) ⟨za_n80, ?_⟩⟩⟩)⟩)
                refine zg_yadd (show f < 8 by omega) (show l < 4 by omega) hc8 rfl (za_d8 (by omega)) ?_
                refine zd_ycl hG2 (zl_in hK1.1) hL hN (fun z => absurd z hk7) (fun _ => br_t rfl (br_f za_n10 ⟨za_n80, ?_⟩))
                rw [hciy]
                exact h216
              rcases ht with rfl | rfl
              · refine br_t rfl ?_
                refine zi_xu hF2 (by decide) ?_
                refine yy _ (FY _ (br_t rfl ?_))
                exact zi_yu hF2 hK ⟨rfl, zi_mk h0⟩
              · refine br_f za_n10 ⟨hvi, hvc, nm_r (e' := upd he c (rV (4 * (F - 1) + q))) (by rw [hcc]) ?_⟩
                refine zc_xkeep (by decide) ?_
                refine yy _ (FY _ (br_f za_n10 (br_f za_n10 ⟨hvc, nm_r (e' := upd he c (rV (4 * (F - 1) + q))) (by rw [hcc]) ⟨rfl, ?_⟩⟩)))
                exact zi_mk ⟨hT, hK2, hB, hfn, zi_u hhe (hr (4 * (F - 1) + q) (by omega)).2.1, hf', hr⟩
          · refine br_f (by rw [hci]; exact m1) ?_
            refine zi_xu hF1 (by decide) ?_
            unfold wpY_put wpY_access
            refine zc_yready h01 hN (by omega) (fun y => absurd z0 y) (fun _ y => by omega) (fun _ _ => br_t rfl ?_)
            refine nm_r e1 ⟨hv8, nm_r (e' := nI l) (by rw [cl1]; exact eL) ?_⟩
            refine HY1 _ (br_t (zb_Cp hC1 hL hN) ?_)
            refine OY _ _ _ _ _ (br_f ho1 ⟨hvc, nm_r (e' := nI f) (by rw [hcc]; exact ef) (br_f za_n10 ⟨hviy, br_f za_n10 ⟨hviy, br_f (by rw [hciy]; exact m1) ?_⟩⟩)⟩)
            exact zi_yu hF1 hK ⟨rfl, zi_mk h0⟩
end
section
/-! call -/
def zs_g (gp : Nat → Int32) (n x y : Nat) : Nat → Int32 := zg_m gp n (gp (8 * x + n)) (gp (8 * y + n)) 4
def zs_f (fa : Nat → Int32) (n x y : Nat) : Nat → Int32 := upd fa (16 * n + (4 * x + y)) 1
section ZS
variable {lc nc mf wl fr : Int32} {tg ld gp hf sn fn ma mr so he sl sg ss wL wN wC wF fL fE fR rN rV fa wx wm wy wk ol os oF : Nat → Int32}
theorem zs_xadd {post : SX → Prop} {n x y : Nat} {v1 v2 : Int32} (hn : n < 8) (hx : x < 4) (hy : y < 4) (e1 : v1 = nI x) (e2 : v2 = nI y) (hp : post (lc, nc, mf, wl, fr, tg, ld, zs_g gp n x y, hf, sn, fn, ma, mr, so, he, sl, sg, ss, wL, wN, wC, wF, fL, fE, fR, rN, rV)) : wpX_addTie post (lc, nc, mf, wl, fr, tg, ld, gp, hf, sn, fn, ma, mr, so, he, sl, sg, ss, wL, wN, wC, wF, fL, fE, fR, rN, rV) (nI n) v1 v2 := zg_xadd hn hx hy e1 e2 hp
theorem zs_yadd {post : SY → Prop} {n x y : Nat} {v1 v2 : Int32} (hn : n < 8) (hx : x < 4) (hy : y < 4) (e1 : v1 = nI x) (e2 : v2 = nI y) (hp : post (lc, nc, mf, fr, tg, ld, so, he, sn, fn, hf, ma, mr, zs_f fa n x y, fL, fE, fR, rN, rV, wx, wm, wy, wk, ol, os, oF)) : wpY_addTie post (lc, nc, mf, fr, tg, ld, so, he, sn, fn, hf, ma, mr, fa, fL, fE, fR, rN, rV, wx, wm, wy, wk, ol, os, oF) (nI n) v1 v2 := zg_yadd hn hx hy e1 e2 hp
theorem zs_K {L N n x y : Nat} (hK : zl_K L N ld so gp fa) (hn : n < 8) (hx : x < 4) (hy : y < 4) : zl_K L N ld so (zs_g gp n x y) (zs_f fa n x y) := ⟨hK.1, hK.2.1, hK.2.2.1, zg_tie hK.2.2.2 hn hx hy⟩
theorem zs_F {ld' so' gp' fa' : Nat → Int32} {n x y : Nat} (hF : zl_F ld so gp fa ld' so' gp' fa') (hn : n < 8) (hx : x < 4) (hy : y < 4) : zl_F ld so gp fa ld' so' (zs_g gp' n x y) (zs_f fa' n x y) :=
  ⟨hF.1, hF.2.1, fun j hj => (zg_m32 hj).trans (hF.2.2.1 j hj), fun j hj => (pk_un (by omega)).trans (hF.2.2.2 j hj)⟩
end ZS
theorem i_vc_call {k : Nat} {u : SX} {v : SY} (I : i_Rel k u v) (hk : k + 5 ≤ 2563) (v1 : Int32) (v2 : Int32) (v3 : Int32) (v4 : Int32) : wpX_call (fun r u' => wpY_call (fun r' v' => r' = r ∧ i_Rel (k + 5) u' v') v v1 v2 v3 v4) u v1 v2 v3 v4 := by
  refine I (fun u v => wpX_call (fun r u' => wpY_call (fun r' v' => r' = r ∧ i_Rel (k + 5) u' v') v v1 v2 v3 v4) u v1 v2 v3 v4) ?_
  intro L N M F wl tg ld gp hf sn fn ma mr so he sl sg ss wL wN wC wF fL fE fR rN rV fa wx wm wy wk ol os oF h
  have h0 := h
  obtain ⟨hT, hK, hB, hfn, hhe, hf', hr⟩ := h
  have hL := hT.1
  have hN := hT.2.1
  have h01 := hK.2.2.2.2.2
  unfold wpX_call
  by_cases b1 : zb_L 4 v1
  · obtain ⟨q, hq4, rfl⟩ := b1
    refine zb_xR1 hq4 (br_f za_n10 ?_)
    by_cases b2 : zb_L 4 v3
    · obtain ⟨a, ha4, rfl⟩ := b2
      refine zb_xR1 ha4 (br_f za_n10 ?_)
      by_cases b3 : zb_L 4 v4
      · obtain ⟨dd, hd4, rfl⟩ := b3
        refine zb_xR1 hd4 (br_f za_n10 ?_)
        by_cases b4 : zb_L 2 v2
        · obtain ⟨s, hs, rfl⟩ := b4
          obtain ⟨s1, s2, s3⟩ := zm_s1 hs
          refine zb_xS1 hs (br_f za_n10 ?_)
          by_cases zF : nI F = 0
          · refine br_t zF ?_
            unfold wpY_call
            refine zb_yR1 hq4 (br_f za_n10 ?_)
            refine zb_yR1 ha4 (br_f za_n10 ?_)
            refine zb_yR1 hd4 (br_f za_n10 (br_f s1 (br_t s3 ?_)))
            exact br_t zF ⟨rfl, zi_mk h0⟩
          · refine br_f zF ?_
            have zF0 : 0 < F := by
              rcases Nat.eq_zero_or_pos F with e | e
              · exact absurd (by rw [e]; rfl) zF
              · exact e
            by_cases zM : nI F < nI M
            · refine br_t zM ?_
              have hFM : F < M := (nI_ltI (by omega) (by omega)).mp zM
              obtain ⟨⟨l, hl, eL⟩, _⟩ := hf' (F - 1) (by omega)
              have e1 : nI F - 1 = nI (F - 1) := za_p zF0
              have cl1 : (nI (F - 1)).toNatClampNeg = F - 1 := nI_clamp (by omega)
              have hv8 : vp_in (nI (F - 1)) 8 := vp_in_nI (by omega) (by omega)
              have hv1 : vp_in (nI F - 1) 8 := pk_in (F - 1) 8 (by omega) e1
              have hvi : vp_in (nI (4 * (F - 1)) + nI q) 32 := pk_in (4 * (F - 1) + q) 32 (by omega) (nI_add _ _)
              have hci : (nI (4 * (F - 1)) + nI q).toNatClampNeg = 4 * (F - 1) + q := by rw [nI_add, nI_clamp (by omega)]
              have hva : vp_in (nI (4 * (F - 1)) + nI a) 32 := pk_in (4 * (F - 1) + a) 32 (by omega) (nI_add _ _)
              have hca : (nI (4 * (F - 1)) + nI a).toNatClampNeg = 4 * (F - 1) + a := by rw [nI_add, nI_clamp (by omega)]
              have hviy : vp_in (nI (F - 1) * 4 + nI q) 32 := za_i4y (by omega) hq4
              have hciy : (nI (F - 1) * 4 + nI q).toNatClampNeg = 4 * (F - 1) + q := za_c4y (by omega)
              have hvay : vp_in (nI (F - 1) * 4 + nI a) 32 := za_i4y (by omega) ha4
              have hcay : (nI (F - 1) * 4 + nI a).toNatClampNeg = 4 * (F - 1) + a := za_c4y (by omega)
              refine zc_xsave ?_
              unfold wpX_callStep
              refine nm_r (e' := nI (4 * (F - 1))) (by rw [e1]; exact pk_mul 4 (F - 1)) ⟨hv1, nm_r (e' := nI l) (by rw [e1, cl1]; exact eL) ⟨hvi, ?_⟩⟩
              by_cases m1 : rN (4 * (F - 1) + q) = -1
              · refine br_t (by rw [hci]; exact m1) ?_
                refine zi_xu (zl_F0 (fa := fa)) (by decide) ?_
                unfold wpY_call
                refine zb_yR1 hq4 (br_f za_n10 ?_)
                refine zb_yR1 ha4 (br_f za_n10 ?_)
                refine zb_yR1 hd4 (br_f za_n10 (br_f s1 (br_t s3 ?_)))
                refine br_f zF (br_t zM (nm_r e1 ⟨hv8, nm_r (e' := nI l) (by rw [cl1]; exact eL) ⟨hviy, nm_r (e' := rN (4 * (F - 1) + q)) (by rw [hciy]) ⟨hviy, nm_r (e' := rV (4 * (F - 1) + q)) (by rw [hciy]) ?_⟩⟩⟩))
                exact br_t m1 ⟨rfl, zi_mk h0⟩
              · refine br_f (by rw [hci]; exact m1) ⟨hvi, ?_⟩
                by_cases m2 : rV (4 * (F - 1) + q) = -1
                · refine br_t (by rw [hci]; exact m2) ?_
                  refine zi_xu (zl_F0 (fa := fa)) (by decide) ?_
                  unfold wpY_call
                  refine zb_yR1 hq4 (br_f za_n10 ?_)
                  refine zb_yR1 ha4 (br_f za_n10 ?_)
                  refine zb_yR1 hd4 (br_f za_n10 (br_f s1 (br_t s3 ?_)))
                  refine br_f zF (br_t zM (nm_r e1 ⟨hv8, nm_r (e' := nI l) (by rw [cl1]; exact eL) ⟨hviy, nm_r (e' := rN (4 * (F - 1) + q)) (by rw [hciy]) ⟨hviy, nm_r (e' := rV (4 * (F - 1) + q)) (by rw [hciy]) ?_⟩⟩⟩))
                  exact br_f m1 (br_t m2 ⟨rfl, zi_mk h0⟩)
                · refine br_f (by rw [hci]; exact m2) ⟨hvi, ?_⟩
                  obtain ⟨x1, x2, _⟩ := hr (4 * (F - 1) + q) (by omega)
                  obtain ⟨n, hn, en⟩ : ∃ n, n < N ∧ rN (4 * (F - 1) + q) = nI n := by
                    rcases x1 with e | e
                    · exact absurd e m1
                    · exact e
                  have hVC : zb_C L N (rV (4 * (F - 1) + q)) := by
                    rcases x2 with e | e
                    · exact absurd e m2
                    · exact e
                  rw [hci, en]
                  obtain ⟨r, wl1, ld1, so1, gp1, fa1, wL1, wN1, wC1, wF1, wx1, wm1, wy1, wk1, hK1, hr1, hF1, HX1, HY1⟩ := zl_load (mf := nI M) (wl := wl) (fr := nI F) (tg := tg) (ld := ld) (gp := gp) (hf := hf) (sn := sn) (fn := fn) (ma := ma) (mr := mr) (so := so) (he := he) (sl := zu_mx 32 ld sl) (sg := zu_mx 32 gp sg) (ss := zu_mx 32 so ss) (wL := wL) (wN := wN) (wC := wC) (wF := wF) (fL := fL) (fE := fE) (fR := fR) (rN := rN) (rV := rV) (fa := fa) (wx := wx) (wm := wm) (wy := wy) (wk := wk) (ol := zu_mx 32 ld ol) (os := zu_mx 32 so os) (oF := zu_mx 128 fa oF) hT hK hl hn
                  refine HX1 _ ?_
                  rcases hr1 with hn1 | hC1
                  · refine br_f (zl_nn hn1) ?_
                    refine zi_xu hF1 (zl_n2 hn1) ?_
                    unfold wpY_call
                    refine zb_yR1 hq4 (br_f za_n10 ?_)
                    refine zb_yR1 ha4 (br_f za_n10 ?_)
                    refine zb_yR1 hd4 (br_f za_n10 (br_f s1 (br_t s3 ?_)))
                    refine br_f zF (br_t zM (nm_r e1 ⟨hv8, nm_r (e' := nI l) (by rw [cl1]; exact eL) ⟨hviy, nm_r (e' := rN (4 * (F - 1) + q)) (by rw [hciy]) ⟨hviy, nm_r (e' := rV (4 * (F - 1) + q)) (by rw [hciy]) ?_⟩⟩⟩))
                    refine br_f m1 (br_f m2 ?_)
                    refine zc_ysave h01 ?_
                    rw [en]
                    refine HY1 _ (br_f (zl_nn hn1) ?_)
                    exact zi_yu hF1 hK ⟨rfl, zi_mk h0⟩
                  · refine br_t (zb_Cp hC1 hL hN) ?_
                    obtain ⟨w, hU⟩ := zi_U hL hN hK1.2.2.1 hC1
                    obtain ⟨o, ho, OX, OY⟩ := ze_mo (lc := nI L) (nc := nI N) (mf := nI M) (wl := wl1) (fr := nI F) (tg := tg) (ld := ld1) (gp := gp1) (hf := hf) (sn := sn) (fn := fn) (ma := ma) (mr := mr) (so := so1) (he := he) (sl := zu_mx 32 ld sl) (sg := zu_mx 32 gp sg) (ss := zu_mx 32 so ss) (wL := wL1) (wN := wN1) (wC := wC1) (wF := wF1) (fL := fL) (fE := fE) (fR := fR) (rN := rN) (rV := rV) (fa := fa1) (wx := wx1) (wm := wm1) (wy := wy1) (wk := wk1) (ol := zu_mx 32 ld ol) (os := zu_mx 32 so os) (oF := zu_mx 128 fa oF) hs hU
                    refine OX _ ?_
                    rcases ho with rfl | ⟨p, hp, hpL, hpN, rfl, hpm⟩
                    · refine br_t rfl ?_
                      refine zi_xu hF1 (by decide) ?_
                      unfold wpY_call
                      refine zb_yR1 hq4 (br_f za_n10 ?_)
                      refine zb_yR1 ha4 (br_f za_n10 ?_)
                      refine zb_yR1 hd4 (br_f za_n10 (br_f s1 (br_t s3 ?_)))
                      refine br_f zF (br_t zM (nm_r e1 ⟨hv8, nm_r (e' := nI l) (by rw [cl1]; exact eL) ⟨hviy, nm_r (e' := rN (4 * (F - 1) + q)) (by rw [hciy]) ⟨hviy, nm_r (e' := rV (4 * (F - 1) + q)) (by rw [hciy]) ?_⟩⟩⟩))
                      refine br_f m1 (br_f m2 ?_)
                      refine zc_ysave h01 ?_
                      rw [en]
                      refine HY1 _ (br_t (zb_Cp hC1 hL hN) ?_)
                      refine OY _ ?_
                      refine br_t rfl ?_
                      exact zi_yu hF1 hK ⟨rfl, zi_mk h0⟩
                    · have ho1 : ¬ nI p = -1 := za_n1 (by omega)
                      have hp8 : p / 8 < 4 := by omega
                      have hvp : vp_in (2 * nI p + nI s) 64 := za_i2 hp hs
                      have hcp : (2 * nI p + nI s).toNatClampNeg = 2 * p + s := za_c2 (by omega)
                      have hvpy : vp_in (nI p * 2 + nI s) 64 := za_i2y hp hs
                      have hcpy : (nI p * 2 + nI s).toNatClampNeg = 2 * p + s := za_c2y (by omega)
                      obtain ⟨⟨g, hg, eg⟩, h, hh, eh⟩ : (∃ g, g < N ∧ ma (2 * p + s) = nI g) ∧ ∃ h, h < N ∧ mr (2 * p + s) = nI h := by
                        rcases hT.2.2.2.2 (2 * p + s) (by omega) with e | e
                        · exact absurd e.1 hpm
                        · exact e
                      refine br_f ho1 ⟨hvp, nm_r (e' := nI g) (by rw [hcp]; exact eg) ⟨hvp, nm_r (e' := nI h) (by rw [hcp]; exact eh) ⟨hva, ?_⟩⟩⟩
                      by_cases m3 : rN (4 * (F - 1) + a) = nI g
                      · have hK2 := zs_K (n := g) (x := l) (y := p / 8) hK1 (by omega) (by omega) hp8
                        have hK3 := zs_K (n := h) (x := l) (y := p / 8) hK2 (by omega) (by omega) hp8
                        have hF2 := zs_F (n := g) (x := l) (y := p / 8) hF1 (by omega) (by omega) hp8
                        have hF3 := zs_F (n := h) (x := l) (y := p / 8) hF2 (by omega) (by omega) hp8
                        refine br_t (by rw [hca]; exact m3) ⟨za_n80, ?_⟩
                        refine zs_xadd (show g < 8 by omega) (show l < 4 by omega) hp8 rfl (za_d8 (by omega)) ⟨za_n80, ?_⟩
                        refine zs_xadd (show h < 8 by omega) (show l < 4 by omega) hp8 rfl (za_d8 (by omega)) ?_
                        refine zd_xcl (fun hk7 => br_f za_n10 ?_) (fun hk7 => br_t rfl ⟨hvi, hva, ?_⟩)
                        · refine zi_xu hF3 (by decide) ?_
                          unfold wpY_call
                          refine zb_yR1 hq4 (br_f za_n10 ?_)
                          refine zb_yR1 ha4 (br_f za_n10 ?_)
                          refine zb_yR1 hd4 (br_f za_n10 (br_f s1 (br_t s3 ?_)))
                          refine br_f zF (br_t zM (nm_r e1 ⟨hv8, nm_r (e' := nI l) (by rw [cl1]; exact eL) ⟨hviy, nm_r (e' := rN (4 * (F - 1) + q)) (by rw [hciy]) ⟨hviy, nm_r (e' := rV (4 * (F - 1) + q)) (by rw [hciy]) ?_⟩⟩⟩))
                          refine br_f m1 (br_f m2 ?_)
                          refine zc_ysave h01 ?_
                          rw [en]
                          refine HY1 _ (br_t (zb_Cp hC1 hL hN) ?_)
                          refine OY _ ?_
                          refine br_f ho1 ⟨hvpy, nm_r (e' := nI g) (by rw [hcpy]; exact eg) ⟨hvpy, nm_r (e' := nI h) (by rw [hcpy]; exact eh) ⟨hvay, nm_r (e' := rV (4 * (F - 1) + a)) (by rw [hcay]) ⟨hvay, ?_⟩⟩⟩⟩
                          refine br_t (by rw [hcay]; exact m3) ⟨za_n80, ?_⟩
                          refine zs_yadd (show g < 8 by omega) (show l < 4 by omega) hp8 rfl (za_d8 (by omega)) ⟨za_n80, ?_⟩
                          refine zs_yadd (show h < 8 by omega) (show l < 4 by omega) hp8 rfl (za_d8 (by omega)) ?_
                          refine zd_ycl hK3.2.2.2 (zl_in hK3.1) hL hN (fun _ => br_f za_n10 ?_) (fun z => absurd hk7 z)
                          exact zi_yu hF3 hK ⟨rfl, zi_mk h0⟩
                        · rw [hca]
                          unfold wpX_enter
                          obtain ⟨w2, hU2⟩ := zi_U hL hN hK3.2.2.1 hVC
                          obtain ⟨o2, ho2, QX, QY⟩ := ze_eo (h := nI h) (lc := nI L) (nc := nI N) (mf := nI M) (wl := wl1) (fr := nI F) (tg := tg) (ld := ld1) (gp := zs_g (zs_g gp1 g l (p / 8)) h l (p / 8)) (hf := hf) (sn := sn) (fn := fn) (ma := ma) (mr := mr) (so := so1) (he := he) (sl := zu_mx 32 ld sl) (sg := zu_mx 32 gp sg) (ss := zu_mx 32 so ss) (wL := wL1) (wN := wN1) (wC := wC1) (wF := wF1) (fL := fL) (fE := fE) (fR := fR) (rN := rN) (rV := rV) (fa := zs_f (zs_f fa1 g l (p / 8)) h l (p / 8)) (wx := wx1) (wm := wm1) (wy := wy1) (wk := wk1) (ol := zu_mx 32 ld ol) (os := zu_mx 32 so os) (oF := zu_mx 128 fa oF) hs (show g < 8 by omega) hU2
                          refine QX _ ?_
                          rcases ho2 with rfl | ⟨c, hc, hcL, hcN, rfl⟩
                          · refine br_t rfl ?_
                            refine zi_xu hF3 (by decide) ?_
                            unfold wpY_call
                            refine zb_yR1 hq4 (br_f za_n10 ?_)
                            refine zb_yR1 ha4 (br_f za_n10 ?_)
                            refine zb_yR1 hd4 (br_f za_n10 (br_f s1 (br_t s3 ?_)))
                            refine br_f zF (br_t zM (nm_r e1 ⟨hv8, nm_r (e' := nI l) (by rw [cl1]; exact eL) ⟨hviy, nm_r (e' := rN (4 * (F - 1) + q)) (by rw [hciy]) ⟨hviy, nm_r (e' := rV (4 * (F - 1) + q)) (by rw [hciy]) ?_⟩⟩⟩))
                            refine br_f m1 (br_f m2 ?_)
                            refine zc_ysave h01 ?_
                            rw [en]
                            refine HY1 _ (br_t (zb_Cp hC1 hL hN) ?_)
                            refine OY _ ?_
                            refine br_f ho1 ⟨hvpy, nm_r (e' := nI g) (by rw [hcpy]; exact eg) ⟨hvpy, nm_r (e' := nI h) (by rw [hcpy]; exact eh) ⟨hvay, nm_r (e' := rV (4 * (F - 1) + a)) (by rw [hcay]) ⟨hvay, ?_⟩⟩⟩⟩
                            refine br_t (by rw [hcay]; exact m3) ⟨za_n80, ?_⟩
                            refine zs_yadd (show g < 8 by omega) (show l < 4 by omega) hp8 rfl (za_d8 (by omega)) ⟨za_n80, ?_⟩
                            refine zs_yadd (show h < 8 by omega) (show l < 4 by omega) hp8 rfl (za_d8 (by omega)) ?_
                            refine zd_ycl hK3.2.2.2 (zl_in hK3.1) hL hN (fun z => absurd z hk7) (fun _ => br_t rfl ?_)
                            refine QY _ ?_
                            refine br_t rfl ?_
                            unfold wY_call_328
                            exact zi_yu hF3 hK ⟨rfl, zi_mk h0⟩
                          · have hq1 : ¬ nI c = -1 := za_n1 (by omega)
                            obtain ⟨t1, ht1, FX1, FY1⟩ := zi_fits (v := rV (4 * (F - 1) + q)) (vx := nI c / 8) (vm := nI c - nI c / 8 * 8) (mf := nI M) (wl := wl1) (fr := nI F) (tg := tg) (ld := ld1) (gp := zs_g (zs_g gp1 g l (p / 8)) h l (p / 8)) (hf := hf) (sn := sn) (fn := fn) (ma := ma) (mr := mr) (so := so1) (he := he) (sl := zu_mx 32 ld sl) (sg := zu_mx 32 gp sg) (ss := zu_mx 32 so ss) (wL := wL1) (wN := wN1) (wC := wC1) (wF := wF1) (fL := fL) (fE := fE) (fR := fR) (rN := rN) (rV := rV) (fa := zs_f (zs_f fa1 g l (p / 8)) h l (p / 8)) (wx := wx1) (wm := wm1) (wy := wy1) (wk := wk1) (ol := zu_mx 32 ld ol) (os := zu_mx 32 so os) (oF := zu_mx 128 fa oF) hL hN hK3 hcL (za_d8 (by omega)) (Or.inr ⟨hVC, c % 8, hcN, za_r8 (by omega)⟩)
                            obtain ⟨y1, y2, _⟩ := hr (4 * (F - 1) + a) (by omega)
                            obtain ⟨t2, ht2, FX2, FY2⟩ := zi_fits (v := rV (4 * (F - 1) + a)) (vx := nI c / 8) (vm := nI g) (mf := nI M) (wl := wl1) (fr := nI F) (tg := tg) (ld := ld1) (gp := zs_g (zs_g gp1 g l (p / 8)) h l (p / 8)) (hf := hf) (sn := sn) (fn := fn) (ma := ma) (mr := mr) (so := so1) (he := he) (sl := zu_mx 32 ld sl) (sg := zu_mx 32 gp sg) (ss := zu_mx 32 so ss) (wL := wL1) (wN := wN1) (wC := wC1) (wF := wF1) (fL := fL) (fE := fE) (fR := fR) (rN := rN) (rV := rV) (fa := zs_f (zs_f fa1 g l (p / 8)) h l (p / 8)) (wx := wx1) (wm := wm1) (wy := wy1) (wk := wk1) (ol := zu_mx 32 ld ol) (os := zu_mx 32 so os) (oF := zu_mx 128 fa oF) hL hN hK3 hcL (za_d8 (by omega)) (by
                              rcases y2 with e | e
                              · exact Or.inl e
                              · exact Or.inr ⟨e, g, hg, rfl⟩)
                            refine br_f hq1 ⟨za_n80, nm_e ⟨za_n80, ?_⟩⟩
                            refine FX1 _ ?_
                            rcases ht1 with rfl | rfl
                            · refine br_t rfl ?_
                              refine zi_xu hF3 (by decide) ?_
                              unfold wpY_call
                              refine zb_yR1 hq4 (br_f za_n10 ?_)
                              refine zb_yR1 ha4 (br_f za_n10 ?_)
                              refine zb_yR1 hd4 (br_f za_n10 (br_f s1 (br_t s3 ?_)))
                              refine br_f zF (br_t zM (nm_r e1 ⟨hv8, nm_r (e' := nI l) (by rw [cl1]; exact eL) ⟨hviy, nm_r (e' := rN (4 * (F - 1) + q)) (by rw [hciy]) ⟨hviy, nm_r (e' := rV (4 * (F - 1) + q)) (by rw [hciy]) ?_⟩⟩⟩))
                              refine br_f m1 (br_f m2 ?_)
                              refine zc_ysave h01 ?_
                              rw [en]
                              refine HY1 _ (br_t (zb_Cp hC1 hL hN) ?_)
                              refine OY _ ?_
                              refine br_f ho1 ⟨hvpy, nm_r (e' := nI g) (by rw [hcpy]; exact eg) ⟨hvpy, nm_r (e' := nI h) (by rw [hcpy]; exact eh) ⟨hvay, nm_r (e' := rV (4 * (F - 1) + a)) (by rw [hcay]) ⟨hvay, ?_⟩⟩⟩⟩
                              refine br_t (by rw [hcay]; exact m3) ⟨za_n80, ?_⟩
                              refine zs_yadd (show g < 8 by omega) (show l < 4 by omega) hp8 rfl (za_d8 (by omega)) ⟨za_n80, ?_⟩
                              refine zs_yadd (show h < 8 by omega) (show l < 4 by omega) hp8 rfl (za_d8 (by omega)) ?_
                              refine zd_ycl hK3.2.2.2 (zl_in hK3.1) hL hN (fun z => absurd z hk7) (fun _ => br_t rfl ?_)
                              refine QY _ ?_
                              refine br_f hq1 ⟨za_n80, za_n80, ?_⟩
                              refine FY1 _ ?_
                              refine br_t rfl ?_
                              unfold wY_call_328
                              exact zi_yu hF3 hK ⟨rfl, zi_mk h0⟩
                            · refine br_f za_n10 ?_
                              refine FX2 _ ?_
                              rcases ht2 with rfl | rfl
                              · refine br_t rfl ?_
                                refine zi_xu hF3 (by decide) ?_
                                unfold wpY_call
                                refine zb_yR1 hq4 (br_f za_n10 ?_)
                                refine zb_yR1 ha4 (br_f za_n10 ?_)
                                refine zb_yR1 hd4 (br_f za_n10 (br_f s1 (br_t s3 ?_)))
                                refine br_f zF (br_t zM (nm_r e1 ⟨hv8, nm_r (e' := nI l) (by rw [cl1]; exact eL) ⟨hviy, nm_r (e' := rN (4 * (F - 1) + q)) (by rw [hciy]) ⟨hviy, nm_r (e' := rV (4 * (F - 1) + q)) (by rw [hciy]) ?_⟩⟩⟩))
                                refine br_f m1 (br_f m2 ?_)
                                refine zc_ysave h01 ?_
                                rw [en]
                                refine HY1 _ (br_t (zb_Cp hC1 hL hN) ?_)
                                refine OY _ ?_
                                refine br_f ho1 ⟨hvpy, nm_r (e' := nI g) (by rw [hcpy]; exact eg) ⟨hvpy, nm_r (e' := nI h) (by rw [hcpy]; exact eh) ⟨hvay, nm_r (e' := rV (4 * (F - 1) + a)) (by rw [hcay]) ⟨hvay, ?_⟩⟩⟩⟩
                                refine br_t (by rw [hcay]; exact m3) ⟨za_n80, ?_⟩
                                refine zs_yadd (show g < 8 by omega) (show l < 4 by omega) hp8 rfl (za_d8 (by omega)) ⟨za_n80, ?_⟩
                                refine zs_yadd (show h < 8 by omega) (show l < 4 by omega) hp8 rfl (za_d8 (by omega)) ?_
                                refine zd_ycl hK3.2.2.2 (zl_in hK3.1) hL hN (fun z => absurd z hk7) (fun _ => br_t rfl ?_)
                                refine QY _ ?_
                                refine br_f hq1 ⟨za_n80, za_n80, ?_⟩
                                refine FY1 _ ?_
                                refine br_f za_n10 ⟨za_n80, ?_⟩
                                refine FY2 _ (br_t rfl ?_)
                                unfold wY_call_328
                                exact zi_yu hF3 hK ⟨rfl, zi_mk h0⟩
                              · refine br_f za_n10 ?_
                                rw [za_2]
                                refine zc_xpush (by omega) ⟨za_n80, ?_⟩
                                refine zc_xtop (F := F + 1) (r := 0) (by omega) (by omega) (by decide) ?_
                                refine zc_xtop (F := F + 1) (r := 1) (by omega) (by omega) (by decide) ?_
                                refine zc_xkeep (by decide) ?_
                                unfold wpY_call
                                refine zb_yR1 hq4 (br_f za_n10 ?_)
                                refine zb_yR1 ha4 (br_f za_n10 ?_)
                                refine zb_yR1 hd4 (br_f za_n10 (br_f s1 (br_t s3 ?_)))
                                refine br_f zF (br_t zM (nm_r e1 ⟨hv8, nm_r (e' := nI l) (by rw [cl1]; exact eL) ⟨hviy, nm_r (e' := rN (4 * (F - 1) + q)) (by rw [hciy]) ⟨hviy, nm_r (e' := rV (4 * (F - 1) + q)) (by rw [hciy]) ?_⟩⟩⟩))
                                refine br_f m1 (br_f m2 ?_)
                                refine zc_ysave h01 ?_
                                rw [en]
                                refine HY1 _ (br_t (zb_Cp hC1 hL hN) ?_)
                                refine OY _ ?_
                                refine br_f ho1 ⟨hvpy, nm_r (e' := nI g) (by rw [hcpy]; exact eg) ⟨hvpy, nm_r (e' := nI h) (by rw [hcpy]; exact eh) ⟨hvay, nm_r (e' := rV (4 * (F - 1) + a)) (by rw [hcay]) ⟨hvay, ?_⟩⟩⟩⟩
                                refine br_t (by rw [hcay]; exact m3) ⟨za_n80, ?_⟩
                                refine zs_yadd (show g < 8 by omega) (show l < 4 by omega) hp8 rfl (za_d8 (by omega)) ⟨za_n80, ?_⟩
                                refine zs_yadd (show h < 8 by omega) (show l < 4 by omega) hp8 rfl (za_d8 (by omega)) ?_
                                refine zd_ycl hK3.2.2.2 (zl_in hK3.1) hL hN (fun z => absurd z hk7) (fun _ => br_t rfl ?_)
                                refine QY _ ?_
                                refine br_f hq1 ⟨za_n80, za_n80, ?_⟩
                                refine FY1 _ ?_
                                refine br_f za_n10 ⟨za_n80, ?_⟩
                                refine FY2 _ (br_f za_n10 ⟨za_n80, ?_⟩)
                                rw [za_2y]
                                refine zc_ypush (by omega) ⟨za_n80, ?_⟩
                                rw [nI_1, show F - 1 + 1 = F from by omega]
                                refine zc_yreg (r := 0) (by omega) (by decide) ?_
                                refine zc_yreg (r := 1) (by omega) (by decide) ⟨rfl, ?_⟩
                                have hcs : zb_N N (nI c - nI c / 8 * 8) := Or.inr ⟨c % 8, hcN, za_r8 (by omega)⟩
                                have hcs1 : ¬ nI c - nI c / 8 * 8 = -1 := by rw [za_r8 (by omega)]; exact za_n1 (by omega)
                                exact zi_mk (F := F + 1) ⟨hT, hK3, ⟨hB.1, hB.2.1, by omega⟩, hfn, hhe, zi_fp hf' ⟨c / 8, hcL, za_d8 (by omega)⟩ (fun _ => ⟨⟨2 * c + s, by omega, rfl⟩, ⟨dd, hd4, rfl⟩⟩), zi_rs (zi_rs (zi_rp hr) hcs (Or.inr hVC) (fun e => absurd e hcs1)) (Or.inr ⟨g, hg, rfl⟩) y2 (fun e => absurd e (za_n1 (by omega)))⟩
                      · refine br_f (by rw [hca]; exact m3) ?_
                        refine zi_xu hF1 (by decide) ?_
                        unfold wpY_call
                        refine zb_yR1 hq4 (br_f za_n10 ?_)
                        refine zb_yR1 ha4 (br_f za_n10 ?_)
                        refine zb_yR1 hd4 (br_f za_n10 (br_f s1 (br_t s3 ?_)))
                        refine br_f zF (br_t zM (nm_r e1 ⟨hv8, nm_r (e' := nI l) (by rw [cl1]; exact eL) ⟨hviy, nm_r (e' := rN (4 * (F - 1) + q)) (by rw [hciy]) ⟨hviy, nm_r (e' := rV (4 * (F - 1) + q)) (by rw [hciy]) ?_⟩⟩⟩))
                        refine br_f m1 (br_f m2 ?_)
                        refine zc_ysave h01 ?_
                        rw [en]
                        refine HY1 _ (br_t (zb_Cp hC1 hL hN) ?_)
                        refine OY _ ?_
                        refine br_f ho1 ⟨hvpy, nm_r (e' := nI g) (by rw [hcpy]; exact eg) ⟨hvpy, nm_r (e' := nI h) (by rw [hcpy]; exact eh) ⟨hvay, nm_r (e' := rV (4 * (F - 1) + a)) (by rw [hcay]) ⟨hvay, ?_⟩⟩⟩⟩
                        refine br_f (by rw [hcay]; exact m3) ?_
                        exact zi_yu hF1 hK ⟨rfl, zi_mk h0⟩
            · refine br_f zM ?_
              unfold wpY_call
              refine zb_yR1 hq4 (br_f za_n10 ?_)
              refine zb_yR1 ha4 (br_f za_n10 ?_)
              refine zb_yR1 hd4 (br_f za_n10 (br_f s1 (br_t s3 ?_)))
              exact br_f zF (br_f zM ⟨rfl, zi_mk h0⟩)
        · refine zb_xS0 b4 (br_t rfl ?_)
          unfold wpY_call
          refine zb_yR1 hq4 (br_f za_n10 ?_)
          refine zb_yR1 ha4 (br_f za_n10 ?_)
          refine zb_yR1 hd4 (br_f za_n10 (br_c (fun _ => ⟨rfl, zi_mk h0⟩) (fun z => br_f (fun w => Int32.not_lt.mpr w (zm_s0 b4 z)) ⟨rfl, zi_mk h0⟩)))
      · refine zb_xR0 b3 (br_t rfl ?_)
        unfold wpY_call
        refine zb_yR1 hq4 (br_f za_n10 ?_)
        refine zb_yR1 ha4 (br_f za_n10 ?_)
        exact zb_yR0 b3 (br_t rfl ⟨rfl, zi_mk h0⟩)
    · refine zb_xR0 b2 (br_t rfl ?_)
      unfold wpY_call
      refine zb_yR1 hq4 (br_f za_n10 ?_)
      exact zb_yR0 b2 (br_t rfl ⟨rfl, zi_mk h0⟩)
  · refine zb_xR0 b1 (br_t rfl ?_)
    unfold wpY_call
    exact zb_yR0 b1 (br_t rfl ⟨rfl, zi_mk h0⟩)
end
section
/-! back -/
theorem i_vc_back {k : Nat} {u : SX} {v : SY} (I : i_Rel k u v) (hk : k + 5 ≤ 2563) (v1 : Int32) : wpX_back (fun r u' => wpY_back (fun r' v' => r' = r ∧ i_Rel (k + 5) u' v') v v1) u v1 := by
  refine I (fun u v => wpX_back (fun r u' => wpY_back (fun r' v' => r' = r ∧ i_Rel (k + 5) u' v') v v1) u v1) ?_
  intro L N M F wl tg ld gp hf sn fn ma mr so he sl sg ss wL wN wC wF fL fE fR rN rV fa wx wm wy wk ol os oF h
  have h0 := h
  obtain ⟨hT, hK, hB, hfn, hhe, hf', hr⟩ := h
  have hL := hT.1
  have hN := hT.2.1
  have h01 := hK.2.2.2.2.2
  unfold wpX_back
  by_cases b1 : zb_L 4 v1
  · obtain ⟨q, hq4, rfl⟩ := b1
    refine zb_xR1 hq4 (br_f za_n10 ?_)
    by_cases z2 : (2 : Int32) ≤ nI F
    · refine br_t z2 ?_
      have hF2 : 2 ≤ F := (nI_leI (a := 2) (by decide) (by omega)).mp z2
      obtain ⟨_, hfe⟩ := hf' (F - 1) (by omega)
      obtain ⟨⟨e, he64, ee⟩, s, hs4, es⟩ := hfe (by omega)
      obtain ⟨⟨l, hl, eL⟩, _⟩ := hf' (F - 1 - 1) (by omega)
      have e1 : nI F - 1 = nI (F - 1) := za_p (by omega)
      have e2 : nI (F - 1) - 1 = nI (F - 1 - 1) := za_p (by omega)
      have cl1 : (nI (F - 1)).toNatClampNeg = F - 1 := nI_clamp (by omega)
      have cl2 : (nI (F - 1 - 1)).toNatClampNeg = F - 1 - 1 := nI_clamp (by omega)
      have hv8 : vp_in (nI (F - 1)) 8 := vp_in_nI (by omega) (by omega)
      have hv82 : vp_in (nI (F - 1) - 1) 8 := pk_in (F - 1 - 1) 8 (by omega) e2
      have hfe2 : fE (nI (F - 1)).toNatClampNeg = nI e := by rw [cl1]; exact ee
      have hve : vp_in (fE (nI (F - 1)).toNatClampNeg) 64 := pk_in e 64 he64 hfe2
      have hvi : vp_in (4 * nI (F - 1) + nI q) 32 := za_i4 (by omega) hq4
      have hci : (4 * nI (F - 1) + nI q).toNatClampNeg = 4 * (F - 1) + q := za_c4 (by omega)
      have hviy : vp_in (nI (F - 1) * 4 + nI q) 32 := za_i4y (by omega) hq4
      have hciy : (nI (F - 1) * 4 + nI q).toNatClampNeg = 4 * (F - 1) + q := za_c4y (by omega)
      have hmr : mr (fE (nI (F - 1)).toNatClampNeg).toNatClampNeg = mr e := by rw [hfe2, nI_clamp (by omega)]
      have hfl : fL (nI (F - 1) - 1).toNatClampNeg = nI l := by rw [e2, cl2]; exact eL
      have hfr : fR (nI (F - 1)).toNatClampNeg = nI s := by rw [cl1]; exact es
      obtain ⟨x1, x2, x3⟩ := hr (4 * (F - 1) + q) (by omega)
      refine nm_r e1 ⟨hv8, hve, nm_r hmr ⟨hvi, ?_⟩⟩
      by_cases m1 : rN (4 * (F - 1) + q) = mr e
      · obtain ⟨t, ht, FX, FY⟩ := zi_fits (v := rV (4 * (F - 1) + q)) (vx := nI l) (vm := mr e) (mf := nI M) (wl := wl) (fr := nI F) (tg := tg) (ld := ld) (gp := gp) (hf := hf) (sn := sn) (fn := fn) (ma := ma) (mr := mr) (so := so) (he := he) (sl := sl) (sg := sg) (ss := ss) (wL := wL) (wN := wN) (wC := wC) (wF := wF) (fL := fL) (fE := fE) (fR := fR) (rN := rN) (rV := rV) (fa := fa) (wx := wx) (wm := wm) (wy := wy) (wk := wk) (ol := ol) (os := os) (oF := oF) hL hN hK hl rfl (by
          rcases x2 with y | y
          · exact Or.inl y
          · rcases x1 with w | w
            · exact Or.inl (x3 w)
            · exact Or.inr ⟨y, by rw [← m1]; exact w⟩)
        refine br_t (by rw [hci]; exact m1) ⟨hvi, nm_r (e' := rV (4 * (F - 1) + q)) (by rw [hci]) ⟨hv82, ?_⟩⟩
        rw [hfl]
        refine FX _ ?_
        rcases ht with rfl | rfl
        · refine br_t rfl ?_
          unfold wpY_back
          refine zb_yR1 hq4 (br_f za_n10 (br_t z2 (nm_r e1 ⟨hv8, hve, nm_r hmr ⟨hviy, nm_r (e' := rV (4 * (F - 1) + q)) (by rw [hciy]) ⟨hviy, br_t (by rw [hciy]; exact m1) ⟨hv82, ?_⟩⟩⟩⟩)))
          rw [hfl]
          exact FY _ (br_t rfl ⟨rfl, zi_mk h0⟩)
        · refine br_f za_n10 ⟨hv8, ?_⟩
          rw [hfr]
          refine zc_xtop (F := F - 1) (by omega) (by omega) hs4 ?_
          unfold wpY_back
          refine zb_yR1 hq4 (br_f za_n10 (br_t z2 (nm_r e1 ⟨hv8, hve, nm_r hmr ⟨hviy, nm_r (e' := rV (4 * (F - 1) + q)) (by rw [hciy]) ⟨hviy, br_t (by rw [hciy]; exact m1) ⟨hv82, ?_⟩⟩⟩⟩)))
          rw [hfl]
          refine FY _ (br_f za_n10 ⟨hv8, ?_⟩)
          rw [hfr, e2]
          refine zc_yreg (by omega) hs4 ⟨rfl, ?_⟩
          exact zi_mk (F := F - 1) ⟨hT, hK, ⟨hB.1, hB.2.1, by omega⟩, hfn, hhe, zi_fl hf' (by omega), zi_rs (zi_rl hr (by omega)) (by rw [← m1]; exact x1) x2 (fun y => x3 (m1.trans y))⟩
      · refine br_f (by rw [hci]; exact m1) ?_
        unfold wpY_back
        exact zb_yR1 hq4 (br_f za_n10 (br_t z2 (nm_r e1 ⟨hv8, hve, nm_r hmr ⟨hviy, nm_r (e' := rV (4 * (F - 1) + q)) (by rw [hciy]) ⟨hviy, br_f (by rw [hciy]; exact m1) ⟨rfl, zi_mk h0⟩⟩⟩⟩)))
    · refine br_f z2 ?_
      unfold wpY_back
      exact zb_yR1 hq4 (br_f za_n10 (br_f z2 ⟨rfl, zi_mk h0⟩))
  · refine zb_xR0 b1 (br_t rfl ?_)
    unfold wpY_back
    exact zb_yR0 b1 (br_t rfl ⟨rfl, zi_mk h0⟩)
end
section
/-! the constructors -/
def zn_A : Nat → Int32 := fun j => nI (j / 8)
def zn_B : Nat → Int32 := fun _ => -1
def zn_Z : Nat → Int32 := fun _ => 0
theorem zn_cl (k : Int32) {H : Nat} (hH : 2 ≤ H) (hb : H < 2 ^ 31) : ∃ j, 2 ≤ j ∧ j ≤ H ∧ ∀ A : Int32 → Prop, A (nI j) → ((2 ≤ k → ((k ≤ nI H → A k) ∧ (¬ k ≤ nI H → A (nI H)))) ∧ (¬ 2 ≤ k → A 2)) := by
  by_cases a : (2 : Int32) ≤ k
  · by_cases b : k ≤ nI H
    · have h0 : ¬ k < 0 := Int32.not_lt.mpr (Int32.le_trans (by decide) a)
      obtain ⟨j, hj, rfl⟩ := nI_of h0
      exact ⟨j, (nI_leI (a := 2) (by decide) hj).mp a, (nI_leI hj hb).mp b, fun A hA => br_t a (br_t b hA)⟩
    · exact ⟨H, hH, Nat.le_refl H, fun A hA => br_t a (br_f b hA)⟩
  · exact ⟨2, Nat.le_refl 2, hH, fun A hA => br_f a hA⟩
section ZN
variable {lc nc mf wl fr : Int32} {tg ld gp hf sn fn ma mr so he sl sg ss wL wN wC wF fL fE fR rN rV fa wx wm wy wk ol os oF : Nat → Int32}
theorem zn_xc {post : Int32 → Prop} {k : Int32} {j H : Nat} (a : ∀ A : Int32 → Prop, A (nI j) → ((2 ≤ k → ((k ≤ nI H → A k) ∧ (¬ k ≤ nI H → A (nI H)))) ∧ (¬ 2 ≤ k → A 2))) (hp : post (nI j)) : wpX_clamp post (lc, nc, mf, wl, fr, tg, ld, gp, hf, sn, fn, ma, mr, so, he, sl, sg, ss, wL, wN, wC, wF, fL, fE, fR, rN, rV) k 2 (nI H) := a post hp
theorem zn_x298 {post : SX → Prop} (hp : post (lc, nc, mf, wl, fr, tg, ld, gp, hf, sn, fn, zu_mx 64 zn_B ma, zu_mx 64 zn_B mr, so, he, sl, sg, ss, wL, wN, wC, wF, fL, fE, fR, rN, rV)) : ∀ k i : Nat, i + k = 64 → wX_init_298 post lc nc mf wl fr (k + 1) (nI i) tg ld gp hf sn fn (zu_mx i zn_B ma) (zu_mx i zn_B mr) so he sl sg ss wL wN wC wF fL fE fR rN rV := by
  intro k
  induction k with
  | zero =>
    intro i hi
    obtain rfl : i = 64 := by omega
    exact br_t (za_ge 64 (by omega) (by omega)) hp
  | succ k ih =>
    intro i hi
    have hv : vp_in (nI i) 64 := vp_in_nI (by omega) (by omega)
    have hc : (nI i).toNatClampNeg = i := nI_clamp (by omega)
    refine br_f (za_nge 64 (by omega)) ⟨hv, nm_r (e' := zu_mx (i + 1) zn_B ma) (by rw [hc]; exact zu_mxs i zn_B ma) ⟨hv, nm_r (e' := zu_mx (i + 1) zn_B mr) (by rw [hc]; exact zu_mxs i zn_B mr) (nm_r (nI_1 i) ?_)⟩⟩
    exact ih (i + 1) (by omega)
theorem zn_x218 {post : SX → Prop} (hp : post (lc, nc, mf, wl, fr, zu_mx 32 zn_A tg, zu_mx 32 zn_B ld, zu_mx 32 zn_A gp, hf, zu_mx 32 zn_B sn, zu_mx 32 zn_B fn, zu_mx 64 zn_B ma, zu_mx 64 zn_B mr, zu_mx 32 zn_B so, zu_mx 32 zn_B he, sl, sg, ss, wL, wN, wC, wF, fL, fE, fR, rN, rV)) : ∀ k i : Nat, i + k = 32 → wX_init_218 post lc nc mf wl fr (k + 1) (nI i) (zu_mx i zn_A tg) (zu_mx i zn_B ld) (zu_mx i zn_A gp) hf (zu_mx i zn_B sn) (zu_mx i zn_B fn) ma mr (zu_mx i zn_B so) (zu_mx i zn_B he) sl sg ss wL wN wC wF fL fE fR rN rV := by
  intro k
  induction k with
  | zero =>
    intro i hi
    obtain rfl : i = 32 := by omega
    refine br_t (za_ge 32 (by omega) (by omega)) ⟨65, ?_⟩
    have h := zn_x298 (post := post) hp 64 0 rfl
    rw [zu_mx0 zn_B ma, zu_mx0 zn_B mr] at h
    exact h
  | succ k ih =>
    intro i hi
    have hv : vp_in (nI i) 32 := vp_in_nI (by omega) (by omega)
    have hc : (nI i).toNatClampNeg = i := nI_clamp (by omega)
    have hd : nI i / 8 = zn_A i := za_d8 (by omega)
    refine br_f (za_nge 32 (by omega)) ⟨za_n80, hv, nm_r (e' := zu_mx (i + 1) zn_A tg) (by rw [hc, hd]; exact zu_mxs i zn_A tg) ⟨za_n80, hv, nm_r (e' := zu_mx (i + 1) zn_A gp) (by rw [hc, hd]; exact zu_mxs i zn_A gp) ⟨hv, nm_r (e' := zu_mx (i + 1) zn_B ld) (by rw [hc]; exact zu_mxs i zn_B ld) ⟨hv, nm_r (e' := zu_mx (i + 1) zn_B sn) (by rw [hc]; exact zu_mxs i zn_B sn) ⟨hv, nm_r (e' := zu_mx (i + 1) zn_B fn) (by rw [hc]; exact zu_mxs i zn_B fn) ⟨hv, nm_r (e' := zu_mx (i + 1) zn_B so) (by rw [hc]; exact zu_mxs i zn_B so) ⟨hv, nm_r (e' := zu_mx (i + 1) zn_B he) (by rw [hc]; exact zu_mxs i zn_B he) (nm_r (nI_1 i) ?_)⟩⟩⟩⟩⟩⟩⟩
    exact ih (i + 1) (by omega)
theorem zn_y326 {post : SY → Prop} (hp : post (lc, nc, mf, fr, tg, ld, so, he, sn, fn, hf, zu_mx 64 zn_B ma, zu_mx 64 zn_B mr, fa, fL, fE, fR, rN, rV, wx, wm, wy, wk, ol, os, oF)) : ∀ k i : Nat, i + k = 64 → wY_init_326 post lc nc mf fr (k + 1) (nI i) tg ld so he sn fn hf (zu_mx i zn_B ma) (zu_mx i zn_B mr) fa fL fE fR rN rV wx wm wy wk ol os oF := by
  intro k
  induction k with
  | zero =>
    intro i hi
    obtain rfl : i = 64 := by omega
    exact br_t (za_ge 64 (by omega) (by omega)) hp
  | succ k ih =>
    intro i hi
    have hv : vp_in (nI i) 64 := vp_in_nI (by omega) (by omega)
    have hc : (nI i).toNatClampNeg = i := nI_clamp (by omega)
    refine br_f (za_nge 64 (by omega)) ⟨hv, nm_r (e' := zu_mx (i + 1) zn_B ma) (by rw [hc]; exact zu_mxs i zn_B ma) ⟨hv, nm_r (e' := zu_mx (i + 1) zn_B mr) (by rw [hc]; exact zu_mxs i zn_B mr) (nm_r (nI_1 i) ?_)⟩⟩
    exact ih (i + 1) (by omega)
theorem zn_y258 {post : SY → Prop} (hp : post (lc, nc, mf, fr, zu_mx 32 zn_A tg, zu_mx 32 zn_B ld, zu_mx 32 zn_B so, zu_mx 32 zn_B he, zu_mx 32 zn_B sn, zu_mx 32 zn_B fn, hf, zu_mx 64 zn_B ma, zu_mx 64 zn_B mr, fa, fL, fE, fR, rN, rV, wx, wm, wy, wk, ol, os, oF)) : ∀ k i : Nat, i + k = 32 → wY_init_258 post lc nc mf fr (k + 1) (nI i) (zu_mx i zn_A tg) (zu_mx i zn_B ld) (zu_mx i zn_B so) (zu_mx i zn_B he) (zu_mx i zn_B sn) (zu_mx i zn_B fn) hf ma mr fa fL fE fR rN rV wx wm wy wk ol os oF := by
  intro k
  induction k with
  | zero =>
    intro i hi
    obtain rfl : i = 32 := by omega
    refine br_t (za_ge 32 (by omega) (by omega)) ⟨65, ?_⟩
    have h := zn_y326 (post := post) hp 64 0 rfl
    rw [zu_mx0 zn_B ma, zu_mx0 zn_B mr] at h
    exact h
  | succ k ih =>
    intro i hi
    have hv : vp_in (nI i) 32 := vp_in_nI (by omega) (by omega)
    have hc : (nI i).toNatClampNeg = i := nI_clamp (by omega)
    have hd : nI i / 8 = zn_A i := za_d8 (by omega)
    refine br_f (za_nge 32 (by omega)) ⟨za_n80, hv, nm_r (e' := zu_mx (i + 1) zn_A tg) (by rw [hc, hd]; exact zu_mxs i zn_A tg) ⟨hv, nm_r (e' := zu_mx (i + 1) zn_B ld) (by rw [hc]; exact zu_mxs i zn_B ld) ⟨hv, nm_r (e' := zu_mx (i + 1) zn_B so) (by rw [hc]; exact zu_mxs i zn_B so) ⟨hv, nm_r (e' := zu_mx (i + 1) zn_B he) (by rw [hc]; exact zu_mxs i zn_B he) ⟨hv, nm_r (e' := zu_mx (i + 1) zn_B sn) (by rw [hc]; exact zu_mxs i zn_B sn) ⟨hv, nm_r (e' := zu_mx (i + 1) zn_B fn) (by rw [hc]; exact zu_mxs i zn_B fn) (nm_r (nI_1 i) ?_)⟩⟩⟩⟩⟩⟩
    exact ih (i + 1) (by omega)
end ZN
theorem zn_b {k i : Nat} (h : i < k) : zu_mx k zn_B zn_Z i = -1 := zu_mx_lo h
theorem zn_a {i : Nat} (h : i < 32) : zu_mx 32 zn_A zn_Z i = nI (i / 8) := zu_mx_lo h
theorem zn_I {L N M : Nat} (hL : L ≤ 4) (hN : N ≤ 8) (hM : 1 ≤ M) (hM8 : M ≤ 8) : zi_I L N M 0 (zu_mx 32 zn_A zn_Z) (zu_mx 32 zn_B zn_Z) (zu_mx 32 zn_A zn_Z) (zu_mx 32 zn_B zn_Z) (zu_mx 32 zn_B zn_Z) (zu_mx 64 zn_B zn_Z) (zu_mx 64 zn_B zn_Z) (zu_mx 32 zn_B zn_Z) (zu_mx 32 zn_B zn_Z) zn_Z zn_Z zn_Z zn_Z zn_Z zn_Z := by
  refine ⟨⟨hL, hN, ?_, fun c hc => Or.inl (zn_b hc), fun i hi => Or.inl ⟨zn_b hi, zn_b hi⟩⟩, ⟨?_, fun i hi => Or.inl (zn_b hi), ?_, ?_⟩, ⟨hM, hM8, Nat.zero_le M⟩, fun c hc => Or.inl (zn_b hc), fun c hc => Or.inl (zn_b hc), zi_f0, zi_r0⟩
  · intro l hl n hn
    refine ⟨l, hl, ?_⟩
    rw [zn_a (by omega), show (8 * l + n) / 8 = l from by omega]
  · intro l hl n hn
    exact Or.inl (zn_b (by omega))
  · intro c hc h1 h2
    exact ⟨1, c, hc, h1, h2, rfl, zn_b hc⟩
  · refine ⟨fun n hn x hx y hy h => absurd rfl h, fun n hn S hS x hx y hy h => ?_, fun j hj => Or.inl rfl⟩
    rw [zn_a (by omega), zn_a (by omega)] at h
    have e := za_im h (by omega) (by omega)
    have : x = y := by omega
    rw [this]
theorem zn_xi {post : SX → Prop} {k0 k1 k2 : Int32} {L N M : Nat} (aL : ∀ A : Int32 → Prop, A (nI L) → ((2 ≤ k0 → ((k0 ≤ nI 4 → A k0) ∧ (¬ k0 ≤ nI 4 → A (nI 4)))) ∧ (¬ 2 ≤ k0 → A 2))) (aN : ∀ A : Int32 → Prop, A (nI N) → ((2 ≤ k1 → ((k1 ≤ nI 8 → A k1) ∧ (¬ k1 ≤ nI 8 → A (nI 8)))) ∧ (¬ 2 ≤ k1 → A 2))) (aM : ∀ A : Int32 → Prop, A (nI M) → ((2 ≤ k2 → ((k2 ≤ nI 8 → A k2) ∧ (¬ k2 ≤ nI 8 → A (nI 8)))) ∧ (¬ 2 ≤ k2 → A 2)))
    (hp : post (nI L, nI N, nI M, 0, 0, zu_mx 32 zn_A zn_Z, zu_mx 32 zn_B zn_Z, zu_mx 32 zn_A zn_Z, zn_Z, zu_mx 32 zn_B zn_Z, zu_mx 32 zn_B zn_Z, zu_mx 64 zn_B zn_Z, zu_mx 64 zn_B zn_Z, zu_mx 32 zn_B zn_Z, zu_mx 32 zn_B zn_Z, zn_Z, zn_Z, zn_Z, zn_Z, zn_Z, zn_Z, zn_Z, zn_Z, zn_Z, zn_Z, zn_Z, zn_Z)) : wpX_init post k0 k1 k2 := by
  unfold wpX_init
  refine zn_xc aL ?_
  refine zn_xc aN ?_
  refine zn_xc aM ⟨33, ?_⟩
  have h := zn_x218 hp 32 0 rfl
  rw [zu_mx0 zn_A zn_Z, zu_mx0 zn_B zn_Z] at h
  exact h
theorem zn_yi {post : SY → Prop} {k0 k1 k2 : Int32} {L N M : Nat} (aL : ∀ A : Int32 → Prop, A (nI L) → ((2 ≤ k0 → ((k0 ≤ nI 4 → A k0) ∧ (¬ k0 ≤ nI 4 → A (nI 4)))) ∧ (¬ 2 ≤ k0 → A 2))) (aN : ∀ A : Int32 → Prop, A (nI N) → ((2 ≤ k1 → ((k1 ≤ nI 8 → A k1) ∧ (¬ k1 ≤ nI 8 → A (nI 8)))) ∧ (¬ 2 ≤ k1 → A 2))) (aM : ∀ A : Int32 → Prop, A (nI M) → ((2 ≤ k2 → ((k2 ≤ nI 8 → A k2) ∧ (¬ k2 ≤ nI 8 → A (nI 8)))) ∧ (¬ 2 ≤ k2 → A 2)))
    (hp : post (nI L, nI N, nI M, 0, zu_mx 32 zn_A zn_Z, zu_mx 32 zn_B zn_Z, zu_mx 32 zn_B zn_Z, zu_mx 32 zn_B zn_Z, zu_mx 32 zn_B zn_Z, zu_mx 32 zn_B zn_Z, zn_Z, zu_mx 64 zn_B zn_Z, zu_mx 64 zn_B zn_Z, zn_Z, zn_Z, zn_Z, zn_Z, zn_Z, zn_Z, zn_Z, zn_Z, zn_Z, zn_Z, zn_Z, zn_Z, zn_Z)) : wpY_init post k0 k1 k2 := by
  have h := zn_y258 hp 32 0 rfl
  rw [zu_mx0 zn_A zn_Z, zu_mx0 zn_B zn_Z] at h
  unfold wpY_init
  refine aL (fun z0 => wY_init_202 post k1 k2 z0 0 0 0 0 zn_Z zn_Z zn_Z zn_Z zn_Z zn_Z zn_Z zn_Z zn_Z zn_Z zn_Z zn_Z zn_Z zn_Z zn_Z zn_Z zn_Z zn_Z zn_Z zn_Z zn_Z zn_Z) ?_
  refine aN (fun z0 => wY_init_227 post k2 z0 (nI L) 0 0 0 zn_Z zn_Z zn_Z zn_Z zn_Z zn_Z zn_Z zn_Z zn_Z zn_Z zn_Z zn_Z zn_Z zn_Z zn_Z zn_Z zn_Z zn_Z zn_Z zn_Z zn_Z zn_Z) ?_
  refine aM (fun z0 => ∃ n258 : Nat, wY_init_258 post (nI L) (nI N) z0 0 n258 0 zn_Z zn_Z zn_Z zn_Z zn_Z zn_Z zn_Z zn_Z zn_Z zn_Z zn_Z zn_Z zn_Z zn_Z zn_Z zn_Z zn_Z zn_Z zn_Z zn_Z zn_Z zn_Z) ⟨33, ?_⟩
  exact h
theorem i_vc0 (k0 : Int32) (k1 : Int32) (k2 : Int32) : wpX_init (fun u => wpY_init (fun v => i_Rel 3 u v) k0 k1 k2) k0 k1 k2 := by
  obtain ⟨L, hL1, hL2, aL⟩ := zn_cl k0 (H := 4) (by decide) (by decide)
  obtain ⟨N, hN1, hN2, aN⟩ := zn_cl k1 (H := 8) (by decide) (by decide)
  obtain ⟨M, hM1, hM2, aM⟩ := zn_cl k2 (H := 8) (by decide) (by decide)
  refine zn_xi aL aN aM ?_
  refine zn_yi aL aN aM ?_
  exact zi_mk (F := 0) (zn_I hL2 hN2 (by omega) hM2)
end
