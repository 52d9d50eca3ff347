section
/-! rows pasted from the kit's rows (starting text): stores, nI arithmetic, branches, masks, bits -/
theorem pk_us {f : Nat → Int32} {k : Nat} {x : Int32} : upd f k x k = x := if_pos rfl
theorem pk_un {f : Nat → Int32} {k j : Nat} {x : Int32} (h : j ≠ k) : upd f k x j = f j := if_neg h
theorem pk_sub {a b : Nat} (h : b ≤ a) : nI a - nI b = nI (a - b) := by
  obtain ⟨c, rfl⟩ : ∃ c, a = c + b := ⟨a - b, by omega⟩
  rw [← nI_add, Int32.add_sub_cancel, Nat.add_sub_cancel]
theorem pk_m1 (n : Nat) : nI (n + 1) + (-1) = nI n := by
  rw [← nI_1, Int32.add_assoc, show (1 : Int32) + (-1) = 0 from rfl, Int32.add_zero]
theorem pk_mul (a b : Nat) : nI a * nI b = nI (a * b) := (Int32.ofNat_mul a b).symm
theorem pk_sub_toInt {a b : Nat} (ha : a < 2 ^ 30) (hb : b < 2 ^ 30) : (nI a - nI b).toInt = (a : Int) - b := by
  rw [Int32.toInt_sub, nI_toInt (by omega), nI_toInt (by omega)]
  exact Int.bmod_eq_of_le (by omega) (by omega)
theorem pk_sneg {a b : Nat} (hb : b < 2 ^ 30) (h : a < b) : nI a - nI b < 0 := by
  rw [Int32.lt_iff_toInt_lt, pk_sub_toInt (by omega) hb, show (0 : Int32).toInt = 0 from by decide]
  omega
theorem pk_ix (x : Int32) {n : Nat} (hn : n < 2 ^ 31) : x < 0 ∨ nI n ≤ x ∨ ∃ j : Nat, j < n ∧ x = nI j := by
  by_cases h : x < 0
  · exact Or.inl h
  · obtain ⟨j, hj, rfl⟩ := nI_of h
    by_cases h2 : j < n
    · exact Or.inr (Or.inr ⟨j, h2, rfl⟩)
    · exact Or.inr (Or.inl (nI_le (by omega) hj))
theorem pk_le {x y : Int32} {A B : Prop} (a b : Nat) (f : a ≤ b → A) (g : b < a → B) (hx : x = nI a := by rfl) (hy : y = nI b := by rfl) (ha : a < 2 ^ 31 := by omega) (hb : b < 2 ^ 31 := by omega) : (x ≤ y → A) ∧ (¬ x ≤ y → B) := by
  subst hx hy
  rw [nI_leI ha hb]
  exact ⟨f, fun z => g (by omega)⟩
theorem pk_lt {x y : Int32} {A B : Prop} (a b : Nat) (f : a < b → A) (g : b ≤ a → B) (hx : x = nI a := by rfl) (hy : y = nI b := by rfl) (ha : a < 2 ^ 31 := by omega) (hb : b < 2 ^ 31 := by omega) : (x < y → A) ∧ (¬ x < y → B) := by
  subst hx hy
  rw [nI_ltI ha hb]
  exact ⟨f, fun z => g (by omega)⟩
theorem pk_eq {x y : Int32} {A B : Prop} (a b : Nat) (f : a = b → A) (g : a ≠ b → B) (hx : x = nI a := by rfl) (hy : y = nI b := by rfl) (ha : a < 2 ^ 31 := by omega) (hb : b < 2 ^ 31 := by omega) : (x = y → A) ∧ (¬ x = y → B) := by
  subst hx hy
  rw [nI_eq ha hb]
  exact ⟨f, g⟩
theorem pk_in {x : Int32} (n N : Nat) (h : n < N) (hx : x = nI n := by rfl) (hN : N < 2 ^ 31 := by omega) : vp_in x N := by
  subst hx
  exact vp_in_nI h hN
theorem pk_cl {x : Int32} (n : Nat) (hx : x = nI n := by rfl) (h : n < 2 ^ 31 := by omega) : x.toNatClampNeg = n := by
  subst hx
  exact nI_clamp h
theorem pk_tn {n : Nat} (h : n < 2 ^ 32) : (nI n).toBitVec.toNat = n := Nat.mod_eq_of_lt h
theorem pk_and (x : Int32) {m : Int32} (k : Nat) (hm : m.toBitVec.toNat = 2 ^ k - 1) : x &&& m = nI (x.toBitVec.toNat % 2 ^ k) := by
  apply Int32.toBitVec_inj.mp
  apply BitVec.eq_of_toNat_eq
  rw [Int32.toBitVec_and, BitVec.toNat_and, hm, Nat.and_two_pow_sub_one_eq_mod]
  show _ = (BitVec.ofNat 32 _).toNat
  rw [BitVec.toNat_ofNat]
  exact (Nat.mod_eq_of_lt (Nat.lt_of_le_of_lt (Nat.mod_le _ _) x.toBitVec.isLt)).symm
theorem pk_andN {n : Nat} (h : n < 2 ^ 32) {m : Int32} (k : Nat) (hm : m.toBitVec.toNat = 2 ^ k - 1) : nI n &&& m = nI (n % 2 ^ k) := by
  rw [pk_and _ k hm, pk_tn h]
theorem pk_andE (x : Int32) {m : Int32} (k : Nat) (hm : m.toBitVec.toNat = 2 ^ k - 1) : ∃ j : Nat, j < 2 ^ k ∧ x &&& m = nI j := ⟨_, Nat.mod_lt _ (Nat.two_pow_pos k), pk_and x k hm⟩
theorem pk_andIn (x : Int32) {m : Int32} (k : Nat) (hm : m.toBitVec.toNat = 2 ^ k - 1) (hk : k ≤ 30) : vp_in (x &&& m) (2 ^ k) := by
  obtain ⟨j, hj, e⟩ := pk_andE x k hm
  rw [e]
  exact vp_in_nI hj (Nat.lt_of_le_of_lt (Nat.pow_le_pow_right (by decide) hk) (by decide))
def bt (x : Int32) (i : Nat) : Bool := x.toBitVec.getLsbD i
theorem b_ext {x y : Int32} (h : ∀ i, i < 32 → bt x i = bt y i) : x = y := Int32.toBitVec_inj.mp (BitVec.eq_of_getLsbD_eq (fun i hi => h i hi))
theorem b_or (x y : Int32) (i : Nat) : bt (x ||| y) i = (bt x i || bt y i) := by unfold bt; rw [Int32.toBitVec_or, BitVec.getLsbD_or]
theorem b_and (x y : Int32) (i : Nat) : bt (x &&& y) i = (bt x i && bt y i) := by unfold bt; rw [Int32.toBitVec_and, BitVec.getLsbD_and]
theorem b_xor (x y : Int32) (i : Nat) : bt (x ^^^ y) i = (bt x i ^^ bt y i) := by unfold bt; rw [Int32.toBitVec_xor, BitVec.getLsbD_xor]
theorem b_big {x : Int32} {i : Nat} (h : 32 ≤ i) : bt x i = false := BitVec.getLsbD_of_ge _ _ h
theorem b_255 (i : Nat) : bt 255 i = decide (i < 8) := by
  rcases Nat.lt_or_ge i 32 with h | h
  · exact (by decide +kernel : ∀ i, i < 32 → bt 255 i = decide (i < 8)) i h
  · rw [b_big h, decide_eq_false (by omega)]
theorem b_65535 (i : Nat) : bt 65535 i = decide (i < 16) := by
  rcases Nat.lt_or_ge i 32 with h | h
  · exact (by decide +kernel : ∀ i, i < 32 → bt 65535 i = decide (i < 16)) i h
  · rw [b_big h, decide_eq_false (by omega)]
theorem b_m1 : ∀ i, i < 32 → bt (-1) i = true := by decide +kernel
theorem b_0 (i : Nat) : bt 0 i = false := BitVec.getLsbD_zero
theorem s_l : ∀ n, n < 32 → ((nI n &&& 31).toBitVec.smod 32).toNat = n := by decide +kernel
theorem b_shl (n : Nat) (hn : n < 32) (x : Int32) {i : Nat} (hi : i < 32) : bt (x <<< (nI n &&& 31)) i = (decide (n ≤ i) && bt x (i - n)) := by
  unfold bt
  rw [Int32.toBitVec_shiftLeft]
  show (x.toBitVec <<< ((nI n &&& 31).toBitVec.smod 32).toNat).getLsbD i = _
  rw [s_l n hn, BitVec.getLsbD_shiftLeft]
  rcases Nat.lt_or_ge i n with h | h
  · simp [h, Nat.not_le.mpr h]
  · simp [hi, h, Nat.not_lt.mpr h]
end
section
/-! small numbers, columns of tables, folds, loop laws -/
def zc (x : Int32) : Nat := x.toNatClampNeg
theorem zc_nI {n : Nat} (h : n < 2 ^ 31) : zc (nI n) = n := nI_clamp h
/-- x is a natural number of at most b -/
def zz_nat (b : Nat) (x : Int32) : Prop := x = nI (zc x) ∧ zc x ≤ b
theorem zz_nat_nI {b c : Nat} (h : c ≤ b) (hb : b < 2 ^ 31) : zz_nat b (nI c) := by
  unfold zz_nat
  rw [zc_nI (by omega)]
  exact ⟨rfl, h⟩
theorem zz_nat_0 (b : Nat) (hb : b < 2 ^ 31) : zz_nat b 0 := zz_nat_nI (c := 0) (Nat.zero_le b) hb
theorem zz_nat_of {b : Nat} {x : Int32} (h0 : ¬ x < 0) (h1 : x ≤ nI b) (hb : b < 2 ^ 31) : zz_nat b x := by
  obtain ⟨j, hj, rfl⟩ := nI_of h0
  rw [nI_leI hj hb] at h1
  exact zz_nat_nI h1 hb
theorem zz_nat_le {b c : Nat} {x : Int32} (h : zz_nat b x) (hc : b ≤ c) : zz_nat c x := ⟨h.1, Nat.le_trans h.2 hc⟩
theorem zz_in {n B : Nat} (h : n < B) (hB : B < 2 ^ 31) : vp_in (nI n) B = True := eq_true (vp_in_nI h hB)
theorem zz_m4 (t : Nat) : (4 : Int32) * nI t = nI (4 * t) := pk_mul 4 t
theorem zz_m6 (t : Nat) : (6 : Int32) * nI t = nI (6 * t) := pk_mul 6 t
theorem zz_m14 (t : Nat) : (14 : Int32) * nI t = nI (14 * t) := pk_mul 14 t
theorem zz_m16 (t : Nat) : (16 : Int32) * nI t = nI (16 * t) := pk_mul 16 t
theorem zz_p0 (a : Nat) : nI a + 0 = nI a := Int32.add_zero _
theorem zz_p1 (a : Nat) : nI a + 1 = nI (a + 1) := nI_add a 1
theorem zz_p2 (a : Nat) : nI a + 2 = nI (a + 2) := nI_add a 2
theorem zz_p3 (a : Nat) : nI a + 3 = nI (a + 3) := nI_add a 3
theorem zz_p4 (a : Nat) : nI a + 4 = nI (a + 4) := nI_add a 4
theorem zz_p5 (a : Nat) : nI a + 5 = nI (a + 5) := nI_add a 5
theorem zz_p6 (a : Nat) : nI a + 6 = nI (a + 6) := nI_add a 6
theorem zz_p7 (a : Nat) : nI a + 7 = nI (a + 7) := nI_add a 7
theorem zz_p8 (a : Nat) : nI a + 8 = nI (a + 8) := nI_add a 8
theorem zz_p9 (a : Nat) : nI a + 9 = nI (a + 9) := nI_add a 9
theorem zz_p10 (a : Nat) : nI a + 10 = nI (a + 10) := nI_add a 10
theorem zz_p11 (a : Nat) : nI a + 11 = nI (a + 11) := nI_add a 11
theorem zz_p12 (a : Nat) : nI a + 12 = nI (a + 12) := nI_add a 12
theorem zz_p13 (a : Nat) : nI a + 13 = nI (a + 13) := nI_add a 13
theorem zz_a16 (a : Nat) : (16 : Int32) + nI a = nI (16 + a) := nI_add 16 a
theorem zz_ite {c : Prop} {A B : Prop} (d : Decidable c) (a : c → A) (b : ¬ c → B) : if c then A else B := by
  by_cases h : c
  · rw [if_pos h]; exact a h
  · rw [if_neg h]; exact b h
/-! columns: f (w * t + x) is g t for t below n -/
def zz_col (w n : Nat) (f : Nat → Int32) (x : Nat) (g : Nat → Int32) : Prop := ∀ t, t < n → f (w * t + x) = g t
theorem zz_col_s {w n x t0 : Nat} {f g : Nat → Int32} {v : Int32} (hw : 0 < w) (h : zz_col w n f x g) : zz_col w n (upd f (w * t0 + x) v) x (upd g t0 v) := by
  intro t ht
  by_cases e : t = t0
  · subst e
    rw [pk_us, pk_us]
  · have e2 : w * t + x ≠ w * t0 + x := fun z => e (Nat.eq_of_mul_eq_mul_left hw (Nat.add_right_cancel z))
    rw [pk_un e2, pk_un e]
    exact h t ht
theorem zz_ne {w t t0 x y : Nat} (hx : x < w) (hy : y < w) (hn : x ≠ y) : w * t + x ≠ w * t0 + y := by
  intro z
  have h1 : (w * t + x) % w = x := by rw [Nat.mul_add_mod, Nat.mod_eq_of_lt hx]
  have h2 : (w * t0 + y) % w = y := by rw [Nat.mul_add_mod, Nat.mod_eq_of_lt hy]
  rw [z, h2] at h1
  exact hn h1.symm
theorem zz_col_o {w n x y t0 : Nat} {f g : Nat → Int32} {v : Int32} (hx : x < w) (hy : y < w) (hn : x ≠ y) (h : zz_col w n f x g) : zz_col w n (upd f (w * t0 + y) v) x g := by
  intro t ht
  rw [pk_un (zz_ne hx hy hn)]
  exact h t ht
/-- a store beyond the rows -/
theorem zz_col_b {w n x y t0 : Nat} {f g : Nat → Int32} {v : Int32} (hx : x < w) (hy : y < w) (ht0 : n ≤ t0) (h : zz_col w n f x g) : zz_col w n (upd f (w * t0 + y) v) x g := by
  intro t ht
  have e : w * t + x ≠ w * t0 + y := by
    intro z
    have h1 : w * (t + 1) ≤ w * t0 := Nat.mul_le_mul_left w (by omega)
    rw [Nat.mul_add, Nat.mul_one] at h1
    omega
  rw [pk_un e]
  exact h t ht
/-! folds -/
def zz_fold {σ : Type} (g : Nat → σ → σ) : Nat → Nat → σ → σ
  | 0, _, a => a
  | d + 1, i, a => zz_fold g d (i + 1) (g i a)
theorem zz_fold_congr {σ : Type} {g g' : Nat → σ → σ} : ∀ (d i : Nat) (a : σ), (∀ j b, i ≤ j → j < i + d → g j b = g' j b) → zz_fold g d i a = zz_fold g' d i a := by
  intro d
  induction d with
  | zero => intro i a _; rfl
  | succ d ih =>
    intro i a h
    show zz_fold g d (i + 1) (g i a) = zz_fold g' d (i + 1) (g' i a)
    rw [h i a (Nat.le_refl _) (by omega)]
    exact ih (i + 1) _ (fun j b h1 h2 => h j b (by omega) (by omega))
theorem zz_fold_last {σ : Type} {g : Nat → σ → σ} : ∀ (d i : Nat) (a : σ), zz_fold g (d + 1) i a = g (i + d) (zz_fold g d i a) := by
  intro d
  induction d with
  | zero => intro i a; rfl
  | succ d ih =>
    intro i a
    show zz_fold g (d + 1) (i + 1) (g i a) = g (i + (d + 1)) (zz_fold g d (i + 1) (g i a))
    rw [ih (i + 1) (g i a)]
    exact congrArg (fun z => g z (zz_fold g d (i + 1) (g i a))) (by omega)
/-- an invariant of a fold -/
theorem zz_fold_inv {σ : Type} {g : Nat → σ → σ} (Q : Nat → σ → Prop) (c : Nat) (hs : ∀ j b, j < c → Q j b → Q (j + 1) (g j b)) : ∀ (d i : Nat) (a : σ), i + d = c → Q i a → Q c (zz_fold g d i a) := by
  intro d
  induction d with
  | zero => intro i a h q; have e : i = c := by omega
            subst e; exact q
  | succ d ih =>
    intro i a h q
    exact ih (i + 1) (g i a) (by omega) (hs i a (by omega) q)
def zz_sum (g : Nat → Int32) (d i : Nat) : Int32 := zz_fold (fun j a => a + g j) d i 0
theorem zz_fold_add {g : Nat → Int32} : ∀ (d i : Nat) (a : Int32), zz_fold (fun j a => a + g j) d i a = a + zz_sum g d i := by
  intro d
  induction d with
  | zero => intro i a; exact (Int32.add_zero a).symm
  | succ d ih =>
    intro i a
    have e : zz_sum g (d + 1) i = g i + zz_sum g d (i + 1) := by
      show zz_fold (fun j a => a + g j) d (i + 1) (0 + g i) = _
      rw [ih, Int32.zero_add]
    show zz_fold (fun j a => a + g j) d (i + 1) (a + g i) = _
    rw [ih, e, Int32.add_assoc]
theorem zz_sum_succ {g : Nat → Int32} (d i : Nat) : zz_sum g (d + 1) i = g i + zz_sum g d (i + 1) := by
  show zz_fold (fun j a => a + g j) d (i + 1) (0 + g i) = _
  rw [zz_fold_add, Int32.zero_add]
theorem zz_fold_sub {g : Nat → Int32} : ∀ (d i : Nat) (a : Int32), zz_fold (fun j a => a - g j) d i a = a - zz_sum g d i := by
  intro d
  induction d with
  | zero => intro i a; exact (Int32.sub_zero a).symm
  | succ d ih =>
    intro i a
    show zz_fold (fun j a => a - g j) d (i + 1) (a - g i) = _
    rw [ih, zz_sum_succ]
    generalize zz_sum g d (i + 1) = s
    generalize g i = z
    grind
theorem zz_sum_congr {g g' : Nat → Int32} (d i : Nat) (h : ∀ j, i ≤ j → j < i + d → g j = g' j) : zz_sum g d i = zz_sum g' d i :=
  zz_fold_congr d i 0 (fun j b h1 h2 => by rw [h j h1 h2])
theorem zz_foldL_add {g : Nat → Int64} : ∀ (d i : Nat) (a b : Int64), zz_fold (fun j a => a + g j) d i (a + b) = zz_fold (fun j a => a + g j) d i a + b := by
  intro d
  induction d with
  | zero => intro i a b; rfl
  | succ d ih =>
    intro i a b
    show zz_fold (fun j a => a + g j) d (i + 1) (a + b + g i) = zz_fold (fun j a => a + g j) d (i + 1) (a + g i) + b
    rw [← ih]
    exact congrArg (zz_fold (fun j a => a + g j) d (i + 1)) (by grind)
/-! loop laws: a counted loop is a fold; a search ends at the first hit -/
theorem zz_loop {σ : Type} (W : Nat → Nat → σ → Prop) (g : Nat → σ → σ) (c : Nat) (P : σ → Prop) (hx : ∀ n a, P a → W (n + 1) c a) (hs : ∀ n i a, i < c → W n (i + 1) (g i a) → W (n + 1) i a) : ∀ (d i : Nat) (a : σ) (n : Nat), i + d = c → d < n → P (zz_fold g d i a) → W n i a := by
  intro d
  induction d with
  | zero =>
    intro i a n hi hn hp
    obtain ⟨n, rfl⟩ : ∃ m, n = m + 1 := ⟨n - 1, by omega⟩
    have e : i = c := by omega
    subst e
    exact hx n a hp
  | succ d ih =>
    intro i a n hi hn hp
    obtain ⟨n, rfl⟩ : ∃ m, n = m + 1 := ⟨n - 1, by omega⟩
    exact hs n i a (by omega) (ih (i + 1) (g i a) n (by omega) (by omega) hp)
theorem zz_loopI {σ : Type} (W : Nat → Nat → σ → Prop) (g : Nat → σ → σ) (c : Nat) (P : σ → Prop) (Q : σ → Prop) (hq : ∀ i a, i < c → Q a → Q (g i a)) (hx : ∀ n a, Q a → P a → W (n + 1) c a) (hs : ∀ n i a, i < c → Q a → W n (i + 1) (g i a) → W (n + 1) i a) : ∀ (d i : Nat) (a : σ) (n : Nat), i + d = c → d < n → Q a → P (zz_fold g d i a) → W n i a := by
  intro d
  induction d with
  | zero =>
    intro i a n hi hn q hp
    obtain ⟨n, rfl⟩ : ∃ m, n = m + 1 := ⟨n - 1, by omega⟩
    have e : i = c := by omega
    subst e
    exact hx n a q hp
  | succ d ih =>
    intro i a n hi hn q hp
    obtain ⟨n, rfl⟩ : ∃ m, n = m + 1 := ⟨n - 1, by omega⟩
    exact hs n i a (by omega) q (ih (i + 1) (g i a) n (by omega) (by omega) (hq i a (by omega) q) hp)
theorem zz_find (W : Nat → Nat → Prop) (Q : Nat → Prop) (c : Nat) (A B : Prop) (hx : ∀ n, B → W (n + 1) c) (hs : ∀ n i, i < c → (Q i → A) → (¬ Q i → W n (i + 1)) → W (n + 1) i) : ∀ (d i n : Nat), i + d = c → d < n → ((∃ j, i ≤ j ∧ j < c ∧ Q j) → A) → ((∀ j, i ≤ j → j < c → ¬ Q j) → B) → W n i := by
  intro d
  induction d with
  | zero =>
    intro i n hi hn _ hb
    obtain ⟨n, rfl⟩ : ∃ m, n = m + 1 := ⟨n - 1, by omega⟩
    have e : i = c := by omega
    subst e
    exact hx n (hb (fun j h1 h2 => absurd h1 (by omega)))
  | succ d ih =>
    intro i n hi hn ha hb
    obtain ⟨n, rfl⟩ : ∃ m, n = m + 1 := ⟨n - 1, by omega⟩
    refine hs n i (by omega) (fun q => ha ⟨i, Nat.le_refl _, by omega, q⟩) (fun nq => ih (i + 1) n (by omega) (by omega) (fun ⟨j, h1, h2, q⟩ => ha ⟨j, by omega, h2, q⟩) (fun h => hb (fun j h1 h2 => ?_)))
    rcases Nat.lt_or_ge i j with z | z
    · exact h j z h2
    · have e : j = i := by omega
      subst e
      exact nq
end
section
/-! the pure values that both sides reckon: steps are nested ifs in the shape of the walks -/
theorem zz_nat_ge {b : Nat} {x : Int32} (h : zz_nat b x) : x ≤ nI (zc x) := by
  rw [← h.1]
  exact Int32.le_refl _
theorem zz_nat_lt {b i : Nat} {x : Int32} (h : zz_nat b x) (hb : b < 2 ^ 31) (hi : i < zc x) : ¬ x ≤ nI i := by
  intro z
  have h2 := h.2
  rw [h.1, nI_leI (by omega) (by omega)] at z
  omega
def zz_H (st dn fr to : Nat → Int32) (t q : Nat) : Prop := st t = 2 ∧ ¬ dn t ≤ fr q ∧ ¬ to q ≤ dn t
/-- units of r that section q of task t holds -/
def zz_hu (st dn rs un fr to : Nat → Int32) (r : Int32) (t q : Nat) : Int32 := if rs q = r then (if st t = 2 ∧ ¬ dn t ≤ fr q ∧ ¬ to q ≤ dn t then un q else 0) else 0
def zz_hb (st dn sc rs un fr to : Nat → Int32) (r : Int32) (t : Nat) : Int32 := zz_sum (fun i => zz_hu st dn rs un fr to r t (4 * t + i)) (zc (sc t)) 0
def zz_uu (dn rs un fr to : Nat → Int32) (r : Int32) (t q : Nat) : Int32 := if rs q = r then (if dn t < fr q then 0 else if to q ≤ dn t then 0 else un q) else 0
def zz_ub (dn sc rs un fr to : Nat → Int32) (r : Int32) (t : Nat) : Int32 := zz_sum (fun i => zz_uu dn rs un fr to r t (4 * t + i)) (zc (sc t)) 0
def zz_ns (rs un : Nat → Int32) (r : Int32) (q : Nat) (a : Int32) : Int32 := if rs q = r then (if un q ≤ a then a else un q) else a
def zz_need (sc rs un : Nat → Int32) (r : Int32) (t : Nat) : Int32 := zz_fold (fun i a => zz_ns rs un r (4 * t + i) a) (zc (sc t)) 0 0
def zz_free (cp : Nat → Int32) (hb : Int32 → Nat → Int32) (N r : Nat) : Int32 := cp r - zz_sum (hb (nI r)) N 0
def zz_cs (re : Nat → Int32) (nd fe : Int32) (k : Nat) (a : Int32) : Int32 := if nd ≤ fe then a else if a = -6 then re k else if a ≤ re k then a else re k
def zz_cX (re : Nat → Int32) (nd : Int32 → Nat → Int32) (fe : Nat → Int32) (N R : Nat) : Int32 := zz_fold (fun r a => zz_fold (fun k a => zz_cs re (nd (nI r) k) (fe r) k a) N 0 a) R 0 (-6)
def zz_cY (re : Nat → Int32) (nd : Int32 → Nat → Int32) (fe : Nat → Int32) (N R : Nat) : Int32 := zz_fold (fun k a => zz_fold (fun r a => zz_cs re (nd (nI r) k) (fe r) k a) R 0 a) N 0 (-6)
/-- units * (SCALE / span) -/
def zz_sh (s : Int32) : Int64 := if 1 ≤ s then 2329089562800 / s.toInt64 else 0
def zz_shr (u s : Int32) : Int64 := u.toInt64 * zz_sh s
def zz_wt (bu sp : Nat → Int32) (M : Nat) : Int64 := zz_fold (fun i a => a + zz_shr (bu i) (sp i)) M 0 0
def zz_rs (re : Nat → Int32) (nd : Int32) (k : Nat) (a : Int32) : Int32 := if nd ≤ 0 then a else if a ≤ re k then a else re k
def zz_reach (re : Nat → Int32) (nd : Nat → Int32) (c : Nat) : Int32 := zz_fold (fun k a => zz_rs re (nd k) k a) c 0 31
def zz_ins (f t : Int32) : Int32 := (((1 : Int32) <<< (t &&& 31)) - 1) &&& ((((1 : Int32) <<< ((f + 1) &&& 31)) - 1) ^^^ (-1))
def zz_lr : Nat → Int32 → Int32 → Int32
  | 0, _, l => l
  | d + 1, x, l => if x = 0 then l else zz_lr d (x &&& (x <<< ((1 : Int32) &&& 31))) (l + 1)
def zz_ms (rel rch : Int32) (f t a : Int32) : Int32 := if rel < rch then a else a ||| zz_ins f t
def zz_mask (re sc rs un fr to : Nat → Int32) (rel : Int32) (c t : Nat) : Int32 := zz_fold (fun i a => zz_ms rel (zz_reach re (zz_need sc rs un (rs (4 * t + i))) c) (fr (4 * t + i)) (to (4 * t + i)) a) (zc (sc t)) 0 0
def zz_str (re sc rs un fr to : Nat → Int32) (rel : Int32) (c t : Nat) : Int32 := zz_lr 32 (zz_mask re sc rs un fr to rel c t) 0
def zz_bs (re : Nat → Int32) (rel s : Int32) (l : Nat) (a : Int32) : Int32 := if re l ≤ rel then a else if s ≤ a then a else s
def zz_B (re sc rs un fr to : Nat → Int32) (rel : Int32) (c : Nat) : Int32 := zz_fold (fun l a => zz_bs re rel (zz_str re sc rs un fr to rel c l) l a) c 0 0
def zz_ls (re wc : Nat → Int32) (rel : Int32) (i : Nat) : Int64 := if rel < re i then 0 else zz_shr (wc i) (re i)
def zz_lsum (re wc : Nat → Int32) (rel : Int32) (c : Nat) (w : Int64) : Int64 := zz_fold (fun i a => a + zz_ls re wc rel i) c 0 w
def zz_load (re wc sc rs un fr to : Nat → Int32) (rel : Int32) (c : Nat) (w : Int64) : Int64 := zz_lsum re wc rel c w + zz_shr (zz_B re sc rs un fr to rel c) rel
def zz_u1 (st du : Nat → Int32) (x : Int32) (k : Nat) (a : Int32) : Int32 := if st k < x then a else if a < 0 then nI k else if du (zc a) ≤ du k then a else nI k
def zz_ut (st du : Nat → Int32) (x : Int32) (c : Nat) : Int32 := zz_fold (zz_u1 st du x) c 0 (-9)
def zz_u2 (ql sd : Nat → Int32) (k : Nat) (a : Int32) : Int32 := if ql k ≤ 0 then a else if a < 0 then nI k else if sd (zc a) ≤ sd k then a else nI k
def zz_us (ql sd : Nat → Int32) (c : Nat) : Int32 := zz_fold (zz_u2 ql sd) c 0 (-9)
theorem zz_l1 {x : Int32} (h : 1 ≤ x) : ¬ x.toInt64 = 0 := by
  intro z
  have h2 : x.toInt64.toInt = (0 : Int64).toInt := by rw [z]
  rw [Int32.toInt_toInt64, show (0 : Int64).toInt = 0 from by decide] at h2
  rw [Int32.le_iff_toInt_le, show (1 : Int32).toInt = 1 from by decide] at h
  omega
end
section
/-! the component's queries: each returns its pure value -/
variable {mT mS R mQ T N M K : Nat} {op : Int32} {xtr xcp xlo xpe xre xwc xus xst xln xdn xdu xnx xco xmi xwo xbl xsc xrs xun xfr xto xbu xsp xle xsd xex xql xqu xqt xfa : Nat → Int32} {yf ysec ysv yqu yqt ylg yfi : Nat → Int32}
theorem xx_isHeld {post : Int32 → Prop} {t q : Nat} (ht : t < 6) (hq : q < 24) (h1 : zz_H xst xdn xfr xto t q → post 1) (h0 : ¬ zz_H xst xdn xfr xto t q → post 0) : wpX_isHeld post (nI mT, nI mS, nI R, nI mQ, nI T, nI N, op, nI M, nI K, xtr, xcp, xlo, xpe, xre, xwc, xus, xst, xln, xdn, xdu, xnx, xco, xmi, xwo, xbl, xsc, xrs, xun, xfr, xto, xbu, xsp, xle, xsd, xex, xql, xqu, xqt, xfa) (nI t) (nI q) := by
  simp (disch := omega) only [wpX_isHeld, nI_clamp, zz_in, zz_m4, zz_m6, zz_m14, zz_m16, nI_add, zz_p0, zz_p1, zz_p2, zz_p3, zz_p4, zz_p5, zz_p6, zz_p7, zz_p8, zz_p9, zz_p10, zz_p11, zz_p12, zz_p13, zz_a16, true_and, forall_eq]
  exact br_c (fun a => br_c (fun b => h0 (fun z => z.2.1 b)) (fun b => br_c (fun c => h0 (fun z => z.2.2 c)) (fun c => h1 ⟨a, b, c⟩))) (fun a => h0 (fun z => a z.1))
theorem xx_overlaps {post : Int32 → Prop} {t : Nat} {r a b : Int32} (ht : t < 6) (hsc : zz_nat 4 (xsc t)) (h1 : (∃ s, s < zc (xsc t) ∧ xrs (4 * t + s) = r ∧ ¬ xto (4 * t + s) ≤ a ∧ ¬ b ≤ xfr (4 * t + s)) → post 1) (h0 : (∀ s, s < zc (xsc t) → ¬ (xrs (4 * t + s) = r ∧ ¬ xto (4 * t + s) ≤ a ∧ ¬ b ≤ xfr (4 * t + s))) → post 0) : wpX_overlaps post (nI mT, nI mS, nI R, nI mQ, nI T, nI N, op, nI M, nI K, xtr, xcp, xlo, xpe, xre, xwc, xus, xst, xln, xdn, xdu, xnx, xco, xmi, xwo, xbl, xsc, xrs, xun, xfr, xto, xbu, xsp, xle, xsd, xex, xql, xqu, xqt, xfa) (nI t) r a b := by
  show ∃ n : Nat, wX_overlaps_3 post (nI t) r a b (nI mT) (nI mS) (nI R) (nI mQ) (nI T) (nI N) op (nI M) (nI K) xtr xcp xlo xpe xre xwc xus xst xln xdn xdu xnx xco xmi xwo xbl xsc xrs xun xfr xto xbu xsp xle xsd xex xql xqu xqt xfa n 0
  refine ⟨_, zz_find (fun n i => wX_overlaps_3 post (nI t) r a b (nI mT) (nI mS) (nI R) (nI mQ) (nI T) (nI N) op (nI M) (nI K) xtr xcp xlo xpe xre xwc xus xst xln xdn xdu xnx xco xmi xwo xbl xsc xrs xun xfr xto xbu xsp xle xsd xex xql xqu xqt xfa n (nI i)) (fun s => xrs (4 * t + s) = r ∧ ¬ xto (4 * t + s) ≤ a ∧ ¬ b ≤ xfr (4 * t + s)) (zc (xsc t)) (post 1) (post 0) ?_ ?_ _ 0 _ (Nat.zero_add _) (Nat.lt_succ_self _) (fun ⟨j, _, h2, q⟩ => h1 ⟨j, h2, q⟩) (fun h => h0 (fun s hs => h s (Nat.zero_le _) hs))⟩
  · intro n hb
    simp (disch := omega) only [wX_overlaps_3, nI_clamp, zz_in, zz_m4, zz_m6, zz_m14, zz_m16, nI_add, zz_p0, zz_p1, zz_p2, zz_p3, zz_p4, zz_p5, zz_p6, zz_p7, zz_p8, zz_p9, zz_p10, zz_p11, zz_p12, zz_p13, zz_a16, true_and, forall_eq]
    exact br_t (zz_nat_ge hsc) hb
  · intro n i hi ha hw
    have hi4 : i < 4 := Nat.lt_of_lt_of_le hi hsc.2
    simp (disch := omega) only [wX_overlaps_3, nI_clamp, zz_in, zz_m4, zz_m6, zz_m14, zz_m16, nI_add, zz_p0, zz_p1, zz_p2, zz_p3, zz_p4, zz_p5, zz_p6, zz_p7, zz_p8, zz_p9, zz_p10, zz_p11, zz_p12, zz_p13, zz_a16, true_and, forall_eq]
    exact br_f (zz_nat_lt hsc (by decide) hi) (br_c (fun a1 => br_c (fun a2 => hw (fun z => z.2.1 a2)) (fun a2 => br_c (fun a3 => hw (fun z => z.2.2 a3)) (fun a3 => ha ⟨a1, a2, a3⟩))) (fun a1 => hw (fun z => a1 z.1)))
theorem xx_anyHeld {post : Int32 → Prop} (hN : N ≤ 6) (hsc : ∀ t, t < 6 → zz_nat 4 (xsc t)) (h1 : (∃ t, t < N ∧ ∃ s, s < zc (xsc t) ∧ zz_H xst xdn xfr xto t (4 * t + s)) → post 1) (h0 : (∀ t, t < N → ¬ ∃ s, s < zc (xsc t) ∧ zz_H xst xdn xfr xto t (4 * t + s)) → post 0) : wpX_anyHeld post (nI mT, nI mS, nI R, nI mQ, nI T, nI N, op, nI M, nI K, xtr, xcp, xlo, xpe, xre, xwc, xus, xst, xln, xdn, xdu, xnx, xco, xmi, xwo, xbl, xsc, xrs, xun, xfr, xto, xbu, xsp, xle, xsd, xex, xql, xqu, xqt, xfa) := by
  show ∃ n : Nat, wX_anyHeld_2 post (nI mT) (nI mS) (nI R) (nI mQ) (nI T) (nI N) op (nI M) (nI K) xtr xcp xlo xpe xre xwc xus xst xln xdn xdu xnx xco xmi xwo xbl xsc xrs xun xfr xto xbu xsp xle xsd xex xql xqu xqt xfa n 0
  refine ⟨_, zz_find (fun n i => wX_anyHeld_2 post (nI mT) (nI mS) (nI R) (nI mQ) (nI T) (nI N) op (nI M) (nI K) xtr xcp xlo xpe xre xwc xus xst xln xdn xdu xnx xco xmi xwo xbl xsc xrs xun xfr xto xbu xsp xle xsd xex xql xqu xqt xfa n (nI i)) (fun t => ∃ s, s < zc (xsc t) ∧ zz_H xst xdn xfr xto t (4 * t + s)) N (post 1) (post 0) ?_ ?_ _ 0 _ (Nat.zero_add _) (Nat.lt_succ_self _) (fun ⟨j, _, h2, q⟩ => h1 ⟨j, h2, q⟩) (fun h => h0 (fun s hs => h s (Nat.zero_le _) hs))⟩
  · intro n hb
    simp (disch := omega) only [wX_anyHeld_2, nI_clamp, zz_in, zz_m4, zz_m6, zz_m14, zz_m16, nI_add, zz_p0, zz_p1, zz_p2, zz_p3, zz_p4, zz_p5, zz_p6, zz_p7, zz_p8, zz_p9, zz_p10, zz_p11, zz_p12, zz_p13, zz_a16, true_and, forall_eq]
    exact br_t (Int32.le_refl _) hb
  · intro n t ht ha hw
    have ht6 : t < 6 := by omega
    simp (disch := omega) only [wX_anyHeld_2, nI_clamp, zz_in, zz_m4, zz_m6, zz_m14, zz_m16, nI_add, zz_p0, zz_p1, zz_p2, zz_p3, zz_p4, zz_p5, zz_p6, zz_p7, zz_p8, zz_p9, zz_p10, zz_p11, zz_p12, zz_p13, zz_a16, true_and, forall_eq]
    refine br_f (nI_ge ht (by omega)) ⟨_, zz_find (fun m i => wX_anyHeld_12 post (wX_anyHeld_2 post (nI mT) (nI mS) (nI R) (nI mQ) (nI T) (nI N) op (nI M) (nI K) xtr xcp xlo xpe xre xwc xus xst xln xdn xdu xnx xco xmi xwo xbl xsc xrs xun xfr xto xbu xsp xle xsd xex xql xqu xqt xfa n) (nI t) (nI mT) (nI mS) (nI R) (nI mQ) (nI T) (nI N) op (nI M) (nI K) xtr xcp xlo xpe xre xwc xus xst xln xdn xdu xnx xco xmi xwo xbl xsc xrs xun xfr xto xbu xsp xle xsd xex xql xqu xqt xfa m (nI i)) (fun s => zz_H xst xdn xfr xto t (4 * t + s)) (zc (xsc t)) (post 1) (wX_anyHeld_2 post (nI mT) (nI mS) (nI R) (nI mQ) (nI T) (nI N) op (nI M) (nI K) xtr xcp xlo xpe xre xwc xus xst xln xdn xdu xnx xco xmi xwo xbl xsc xrs xun xfr xto xbu xsp xle xsd xex xql xqu xqt xfa n (nI (t + 1))) ?_ ?_ _ 0 _ (Nat.zero_add _) (Nat.lt_succ_self _) (fun ⟨j, _, h2, q⟩ => ha ⟨j, h2, q⟩) (fun h => hw (fun ⟨s, hs, q⟩ => h s (Nat.zero_le _) hs q))⟩
    · intro m hb
      simp (disch := omega) only [wX_anyHeld_12, nI_clamp, zz_in, zz_m4, zz_m6, zz_m14, zz_m16, nI_add, zz_p0, zz_p1, zz_p2, zz_p3, zz_p4, zz_p5, zz_p6, zz_p7, zz_p8, zz_p9, zz_p10, zz_p11, zz_p12, zz_p13, zz_a16, true_and, forall_eq]
      exact br_t (zz_nat_ge (hsc t ht6)) hb
    · intro m i hi ha2 hw2
      have hi4 : i < 4 := Nat.lt_of_lt_of_le hi (hsc t ht6).2
      simp (disch := omega) only [wX_anyHeld_12, nI_clamp, zz_in, zz_m4, zz_m6, zz_m14, zz_m16, nI_add, zz_p0, zz_p1, zz_p2, zz_p3, zz_p4, zz_p5, zz_p6, zz_p7, zz_p8, zz_p9, zz_p10, zz_p11, zz_p12, zz_p13, zz_a16, true_and, forall_eq]
      exact br_f (zz_nat_lt (hsc t ht6) (by decide) hi) (xx_isHeld ht6 (by omega) (fun z => br_f (by decide) (ha2 z)) (fun z => br_t rfl (hw2 z)))
theorem xx_share {post : Int64 → Prop} {u s : Int32} (h : post (zz_shr u s)) : wpX_share post (nI mT, nI mS, nI R, nI mQ, nI T, nI N, op, nI M, nI K, xtr, xcp, xlo, xpe, xre, xwc, xus, xst, xln, xdn, xdu, xnx, xco, xmi, xwo, xbl, xsc, xrs, xun, xfr, xto, xbu, xsp, xle, xsd, xex, xql, xqu, xqt, xfa) u s := by
  unfold zz_shr zz_sh at h
  simp only [wpX_share]
  refine br_c (fun a => ⟨zz_l1 a, ?_⟩) (fun a => ?_)
  · rw [if_pos a] at h; exact h
  · rw [if_neg a, Int64.mul_zero] at h; exact h
theorem xx_weight {post : Int64 → Prop} (hM : M ≤ 3) (h : post (zz_wt xbu xsp M)) : wpX_serverWeight post (nI mT, nI mS, nI R, nI mQ, nI T, nI N, op, nI M, nI K, xtr, xcp, xlo, xpe, xre, xwc, xus, xst, xln, xdn, xdu, xnx, xco, xmi, xwo, xbl, xsc, xrs, xun, xfr, xto, xbu, xsp, xle, xsd, xex, xql, xqu, xqt, xfa) := by
  show ∃ n : Nat, wX_serverWeight_4 post (nI mT) (nI mS) (nI R) (nI mQ) (nI T) (nI N) op (nI M) (nI K) xtr xcp xlo xpe xre xwc xus xst xln xdn xdu xnx xco xmi xwo xbl xsc xrs xun xfr xto xbu xsp xle xsd xex xql xqu xqt xfa n 0 0
  refine ⟨_, zz_loop (fun n i a => wX_serverWeight_4 post (nI mT) (nI mS) (nI R) (nI mQ) (nI T) (nI N) op (nI M) (nI K) xtr xcp xlo xpe xre xwc xus xst xln xdn xdu xnx xco xmi xwo xbl xsc xrs xun xfr xto xbu xsp xle xsd xex xql xqu xqt xfa n a (nI i)) (fun i a => a + zz_shr (xbu i) (xsp i)) M post ?_ ?_ _ 0 0 _ (Nat.zero_add _) (Nat.lt_succ_self _) h⟩
  · intro n a hp
    simp (disch := omega) only [wX_serverWeight_4, nI_clamp, zz_in, zz_m4, zz_m6, zz_m14, zz_m16, nI_add, zz_p0, zz_p1, zz_p2, zz_p3, zz_p4, zz_p5, zz_p6, zz_p7, zz_p8, zz_p9, zz_p10, zz_p11, zz_p12, zz_p13, zz_a16, true_and, forall_eq]
    exact br_t (Int32.le_refl _) hp
  · intro n i a hi hw
    simp (disch := omega) only [wX_serverWeight_4, nI_clamp, zz_in, zz_m4, zz_m6, zz_m14, zz_m16, nI_add, zz_p0, zz_p1, zz_p2, zz_p3, zz_p4, zz_p5, zz_p6, zz_p7, zz_p8, zz_p9, zz_p10, zz_p11, zz_p12, zz_p13, zz_a16, true_and, forall_eq]
    exact br_f (nI_ge hi (by omega)) (xx_share hw)
theorem xx_need {post : Int32 → Prop} {t : Nat} {r : Int32} (ht : t < 6) (hsc : zz_nat 4 (xsc t)) (h : post (zz_need xsc xrs xun r t)) : wpX_needOf post (nI mT, nI mS, nI R, nI mQ, nI T, nI N, op, nI M, nI K, xtr, xcp, xlo, xpe, xre, xwc, xus, xst, xln, xdn, xdu, xnx, xco, xmi, xwo, xbl, xsc, xrs, xun, xfr, xto, xbu, xsp, xle, xsd, xex, xql, xqu, xqt, xfa) (nI t) r := by
  show ∃ n : Nat, wX_needOf_5 post (nI t) r (nI mT) (nI mS) (nI R) (nI mQ) (nI T) (nI N) op (nI M) (nI K) xtr xcp xlo xpe xre xwc xus xst xln xdn xdu xnx xco xmi xwo xbl xsc xrs xun xfr xto xbu xsp xle xsd xex xql xqu xqt xfa n 0 0
  refine ⟨_, zz_loop (fun n i a => wX_needOf_5 post (nI t) r (nI mT) (nI mS) (nI R) (nI mQ) (nI T) (nI N) op (nI M) (nI K) xtr xcp xlo xpe xre xwc xus xst xln xdn xdu xnx xco xmi xwo xbl xsc xrs xun xfr xto xbu xsp xle xsd xex xql xqu xqt xfa n a (nI i)) (fun i a => zz_ns xrs xun r (4 * t + i) a) (zc (xsc t)) post ?_ ?_ _ 0 0 _ (Nat.zero_add _) (Nat.lt_succ_self _) h⟩
  · intro n a hp
    simp (disch := omega) only [wX_needOf_5, nI_clamp, zz_in, zz_m4, zz_m6, zz_m14, zz_m16, nI_add, zz_p0, zz_p1, zz_p2, zz_p3, zz_p4, zz_p5, zz_p6, zz_p7, zz_p8, zz_p9, zz_p10, zz_p11, zz_p12, zz_p13, zz_a16, true_and, forall_eq]
    exact br_t (zz_nat_ge hsc) hp
  · intro n i a hi hw
    have hi4 : i < 4 := Nat.lt_of_lt_of_le hi hsc.2
    dsimp only [zz_ns] at hw
    simp (disch := omega) only [wX_needOf_5, nI_clamp, zz_in, zz_m4, zz_m6, zz_m14, zz_m16, nI_add, zz_p0, zz_p1, zz_p2, zz_p3, zz_p4, zz_p5, zz_p6, zz_p7, zz_p8, zz_p9, zz_p10, zz_p11, zz_p12, zz_p13, zz_a16, true_and, forall_eq]
    refine br_f (zz_nat_lt hsc (by decide) hi) (br_c (fun a1 => br_c (fun a2 => ?_) (fun a2 => ?_)) (fun a1 => ?_))
    · rw [if_pos a1, if_pos a2] at hw; exact hw
    · rw [if_pos a1, if_neg a2] at hw; exact hw
    · rw [if_neg a1] at hw; exact hw
theorem xx_reach {post : Int32 → Prop} {c : Nat} {r : Int32} (hc : c ≤ 6) (hsc : ∀ t, t < 6 → zz_nat 4 (xsc t)) (h : post (zz_reach xre (zz_need xsc xrs xun r) c)) : wpX_reachOf post (nI mT, nI mS, nI R, nI mQ, nI T, nI N, op, nI M, nI K, xtr, xcp, xlo, xpe, xre, xwc, xus, xst, xln, xdn, xdu, xnx, xco, xmi, xwo, xbl, xsc, xrs, xun, xfr, xto, xbu, xsp, xle, xsd, xex, xql, xqu, xqt, xfa) r (nI c) := by
  show ∃ n : Nat, wX_reachOf_6 post r (nI c) (nI mT) (nI mS) (nI R) (nI mQ) (nI T) (nI N) op (nI M) (nI K) xtr xcp xlo xpe xre xwc xus xst xln xdn xdu xnx xco xmi xwo xbl xsc xrs xun xfr xto xbu xsp xle xsd xex xql xqu xqt xfa n 31 0
  refine ⟨_, zz_loop (fun n i a => wX_reachOf_6 post r (nI c) (nI mT) (nI mS) (nI R) (nI mQ) (nI T) (nI N) op (nI M) (nI K) xtr xcp xlo xpe xre xwc xus xst xln xdn xdu xnx xco xmi xwo xbl xsc xrs xun xfr xto xbu xsp xle xsd xex xql xqu xqt xfa n a (nI i)) (fun k a => zz_rs xre (zz_need xsc xrs xun r k) k a) c post ?_ ?_ _ 0 31 _ (Nat.zero_add _) (Nat.lt_succ_self _) h⟩
  · intro n a hp
    simp (disch := omega) only [wX_reachOf_6, nI_clamp, zz_in, zz_m4, zz_m6, zz_m14, zz_m16, nI_add, zz_p0, zz_p1, zz_p2, zz_p3, zz_p4, zz_p5, zz_p6, zz_p7, zz_p8, zz_p9, zz_p10, zz_p11, zz_p12, zz_p13, zz_a16, true_and, forall_eq]
    exact br_t (Int32.le_refl _) hp
  · intro n i a hi hw
    dsimp only [zz_rs] at hw
    simp (disch := omega) only [wX_reachOf_6, nI_clamp, zz_in, zz_m4, zz_m6, zz_m14, zz_m16, nI_add, zz_p0, zz_p1, zz_p2, zz_p3, zz_p4, zz_p5, zz_p6, zz_p7, zz_p8, zz_p9, zz_p10, zz_p11, zz_p12, zz_p13, zz_a16, true_and, forall_eq]
    refine br_f (nI_ge hi (by omega)) (xx_need (by omega) (hsc i (by omega)) (br_c (fun a1 => ?_) (fun a1 => br_c (fun a2 => ?_) (fun a2 => ?_))))
    · rw [if_pos a1] at hw; exact hw
    · rw [if_neg a1, if_pos a2] at hw; exact hw
    · rw [if_neg a1, if_neg a2] at hw; exact hw
theorem xx_lr {post : Int32 → Prop} : ∀ (d i n : Nat) (x l : Int32), i + d = 32 → d < n → post (zz_lr d x l) → wX_longestRun_7 post (nI mT) (nI mS) (nI R) (nI mQ) (nI T) (nI N) op (nI M) (nI K) xtr xcp xlo xpe xre xwc xus xst xln xdn xdu xnx xco xmi xwo xbl xsc xrs xun xfr xto xbu xsp xle xsd xex xql xqu xqt xfa n x l (nI i) := by
  intro d
  induction d with
  | zero =>
    intro i n x l hi hn hp
    obtain ⟨n, rfl⟩ : ∃ m, n = m + 1 := ⟨n - 1, by omega⟩
    have e : i = 32 := by omega
    subst e
    simp only [wX_longestRun_7]
    exact br_t (by decide) hp
  | succ d ih =>
    intro i n x l hi hn hp
    obtain ⟨n, rfl⟩ : ∃ m, n = m + 1 := ⟨n - 1, by omega⟩
    simp (disch := omega) only [wX_longestRun_7, nI_clamp, zz_in, zz_m4, zz_m6, zz_m14, zz_m16, nI_add, zz_p0, zz_p1, zz_p2, zz_p3, zz_p4, zz_p5, zz_p6, zz_p7, zz_p8, zz_p9, zz_p10, zz_p11, zz_p12, zz_p13, zz_a16, true_and, forall_eq]
    refine br_f (nI_ge (b := 32) (by omega) (by decide)) (br_c (fun z => ?_) (fun z => ?_))
    · rw [zz_lr, if_pos z] at hp; exact hp
    · rw [zz_lr, if_neg z] at hp; exact ih (i + 1) n _ _ (by omega) (by omega) hp
theorem xx_longest {post : Int32 → Prop} {x : Int32} (h : post (zz_lr 32 x 0)) : wpX_longestRun post (nI mT, nI mS, nI R, nI mQ, nI T, nI N, op, nI M, nI K, xtr, xcp, xlo, xpe, xre, xwc, xus, xst, xln, xdn, xdu, xnx, xco, xmi, xwo, xbl, xsc, xrs, xun, xfr, xto, xbu, xsp, xle, xsd, xex, xql, xqu, xqt, xfa) x := by
  show ∃ n : Nat, wX_longestRun_7 post (nI mT) (nI mS) (nI R) (nI mQ) (nI T) (nI N) op (nI M) (nI K) xtr xcp xlo xpe xre xwc xus xst xln xdn xdu xnx xco xmi xwo xbl xsc xrs xun xfr xto xbu xsp xle xsd xex xql xqu xqt xfa n x 0 0
  exact ⟨33, xx_lr 32 0 33 x 0 rfl (by decide) h⟩
theorem xx_stretch {post : Int32 → Prop} {c t : Nat} {rel : Int32} (ht : t < 6) (hc : c ≤ 6) (hsc : ∀ t, t < 6 → zz_nat 4 (xsc t)) (h : post (zz_str xre xsc xrs xun xfr xto rel c t)) : wpX_stretchOf post (nI mT, nI mS, nI R, nI mQ, nI T, nI N, op, nI M, nI K, xtr, xcp, xlo, xpe, xre, xwc, xus, xst, xln, xdn, xdu, xnx, xco, xmi, xwo, xbl, xsc, xrs, xun, xfr, xto, xbu, xsp, xle, xsd, xex, xql, xqu, xqt, xfa) (nI t) rel (nI c) := by
  show ∃ n : Nat, wX_stretchOf_6 post (nI t) rel (nI c) (nI mT) (nI mS) (nI R) (nI mQ) (nI T) (nI N) op (nI M) (nI K) xtr xcp xlo xpe xre xwc xus xst xln xdn xdu xnx xco xmi xwo xbl xsc xrs xun xfr xto xbu xsp xle xsd xex xql xqu xqt xfa n 0 0
  refine ⟨_, zz_loop (fun n i a => wX_stretchOf_6 post (nI t) rel (nI c) (nI mT) (nI mS) (nI R) (nI mQ) (nI T) (nI N) op (nI M) (nI K) xtr xcp xlo xpe xre xwc xus xst xln xdn xdu xnx xco xmi xwo xbl xsc xrs xun xfr xto xbu xsp xle xsd xex xql xqu xqt xfa n a (nI i)) (fun i a => zz_ms rel (zz_reach xre (zz_need xsc xrs xun (xrs (4 * t + i))) c) (xfr (4 * t + i)) (xto (4 * t + i)) a) (zc (xsc t)) (fun m => post (zz_lr 32 m 0)) ?_ ?_ _ 0 0 _ (Nat.zero_add _) (Nat.lt_succ_self _) h⟩
  · intro n a hp
    simp (disch := omega) only [wX_stretchOf_6, nI_clamp, zz_in, zz_m4, zz_m6, zz_m14, zz_m16, nI_add, zz_p0, zz_p1, zz_p2, zz_p3, zz_p4, zz_p5, zz_p6, zz_p7, zz_p8, zz_p9, zz_p10, zz_p11, zz_p12, zz_p13, zz_a16, true_and, forall_eq]
    exact br_t (zz_nat_ge (hsc t ht)) (xx_longest hp)
  · intro n i a hi hw
    have hi4 : i < 4 := Nat.lt_of_lt_of_le hi (hsc t ht).2
    dsimp only [zz_ms] at hw
    simp (disch := omega) only [wX_stretchOf_6, wpX_insideMask, nI_clamp, zz_in, zz_m4, zz_m6, zz_m14, zz_m16, nI_add, zz_p0, zz_p1, zz_p2, zz_p3, zz_p4, zz_p5, zz_p6, zz_p7, zz_p8, zz_p9, zz_p10, zz_p11, zz_p12, zz_p13, zz_a16, true_and, forall_eq]
    refine br_f (zz_nat_lt (hsc t ht) (by decide) hi) (xx_reach hc hsc (br_c (fun a1 => ?_) (fun a1 => ?_)))
    · rw [if_pos a1] at hw; exact hw
    · rw [if_neg a1] at hw; exact hw
theorem xx_blocking {post : Int32 → Prop} {c t : Nat} (ht : t < 6) (hc : c ≤ 6) (hsc : ∀ t, t < 6 → zz_nat 4 (xsc t)) (h : post (zz_B xre xsc xrs xun xfr xto (xre t) c)) : wpX_blockingIn post (nI mT, nI mS, nI R, nI mQ, nI T, nI N, op, nI M, nI K, xtr, xcp, xlo, xpe, xre, xwc, xus, xst, xln, xdn, xdu, xnx, xco, xmi, xwo, xbl, xsc, xrs, xun, xfr, xto, xbu, xsp, xle, xsd, xex, xql, xqu, xqt, xfa) (nI t) (nI c) := by
  simp (disch := omega) only [wpX_blockingIn, nI_clamp, zz_in, zz_m4, zz_m6, zz_m14, zz_m16, nI_add, zz_p0, zz_p1, zz_p2, zz_p3, zz_p4, zz_p5, zz_p6, zz_p7, zz_p8, zz_p9, zz_p10, zz_p11, zz_p12, zz_p13, zz_a16, true_and, forall_eq]
  show ∃ n : Nat, wX_blockingIn_13 post (nI c) (xre t) (nI mT) (nI mS) (nI R) (nI mQ) (nI T) (nI N) op (nI M) (nI K) xtr xcp xlo xpe xre xwc xus xst xln xdn xdu xnx xco xmi xwo xbl xsc xrs xun xfr xto xbu xsp xle xsd xex xql xqu xqt xfa n 0 0
  refine ⟨_, zz_loop (fun n i a => wX_blockingIn_13 post (nI c) (xre t) (nI mT) (nI mS) (nI R) (nI mQ) (nI T) (nI N) op (nI M) (nI K) xtr xcp xlo xpe xre xwc xus xst xln xdn xdu xnx xco xmi xwo xbl xsc xrs xun xfr xto xbu xsp xle xsd xex xql xqu xqt xfa n a (nI i)) (fun l a => zz_bs xre (xre t) (zz_str xre xsc xrs xun xfr xto (xre t) c l) l a) c post ?_ ?_ _ 0 0 _ (Nat.zero_add _) (Nat.lt_succ_self _) h⟩
  · intro n a hp
    simp (disch := omega) only [wX_blockingIn_13, nI_clamp, zz_in, zz_m4, zz_m6, zz_m14, zz_m16, nI_add, zz_p0, zz_p1, zz_p2, zz_p3, zz_p4, zz_p5, zz_p6, zz_p7, zz_p8, zz_p9, zz_p10, zz_p11, zz_p12, zz_p13, zz_a16, true_and, forall_eq]
    exact br_t (Int32.le_refl _) hp
  · intro n i a hi hw
    dsimp only [zz_bs] at hw
    simp (disch := omega) only [wX_blockingIn_13, nI_clamp, zz_in, zz_m4, zz_m6, zz_m14, zz_m16, nI_add, zz_p0, zz_p1, zz_p2, zz_p3, zz_p4, zz_p5, zz_p6, zz_p7, zz_p8, zz_p9, zz_p10, zz_p11, zz_p12, zz_p13, zz_a16, true_and, forall_eq]
    refine br_f (nI_ge hi (by omega)) (br_c (fun a1 => ?_) (fun a1 => xx_stretch (by omega) hc hsc (br_c (fun a2 => ?_) (fun a2 => ?_))))
    · rw [if_pos a1] at hw; exact hw
    · rw [if_neg a1, if_pos a2] at hw; exact hw
    · rw [if_neg a1, if_neg a2] at hw; exact hw
theorem xx_load {post : Int64 → Prop} {c t : Nat} {w : Int64} (ht : t < 6) (hc : c ≤ 6) (hsc : ∀ t, t < 6 → zz_nat 4 (xsc t)) (h : post (zz_load xre xwc xsc xrs xun xfr xto (xre t) c w)) : wpX_loadIn post (nI mT, nI mS, nI R, nI mQ, nI T, nI N, op, nI M, nI K, xtr, xcp, xlo, xpe, xre, xwc, xus, xst, xln, xdn, xdu, xnx, xco, xmi, xwo, xbl, xsc, xrs, xun, xfr, xto, xbu, xsp, xle, xsd, xex, xql, xqu, xqt, xfa) (nI t) (nI c) w := by
  simp (disch := omega) only [wpX_loadIn, nI_clamp, zz_in, zz_m4, zz_m6, zz_m14, zz_m16, nI_add, zz_p0, zz_p1, zz_p2, zz_p3, zz_p4, zz_p5, zz_p6, zz_p7, zz_p8, zz_p9, zz_p10, zz_p11, zz_p12, zz_p13, zz_a16, true_and, forall_eq]
  show ∃ n : Nat, wX_loadIn_14 post (nI t) (nI c) (xre t) (nI mT) (nI mS) (nI R) (nI mQ) (nI T) (nI N) op (nI M) (nI K) xtr xcp xlo xpe xre xwc xus xst xln xdn xdu xnx xco xmi xwo xbl xsc xrs xun xfr xto xbu xsp xle xsd xex xql xqu xqt xfa n w 0
  refine ⟨_, zz_loop (fun n i a => wX_loadIn_14 post (nI t) (nI c) (xre t) (nI mT) (nI mS) (nI R) (nI mQ) (nI T) (nI N) op (nI M) (nI K) xtr xcp xlo xpe xre xwc xus xst xln xdn xdu xnx xco xmi xwo xbl xsc xrs xun xfr xto xbu xsp xle xsd xex xql xqu xqt xfa n a (nI i)) (fun i a => a + zz_ls xre xwc (xre t) i) c (fun a => post (a + zz_shr (zz_B xre xsc xrs xun xfr xto (xre t) c) (xre t))) ?_ ?_ _ 0 w _ (Nat.zero_add _) (Nat.lt_succ_self _) h⟩
  · intro n a hp
    simp (disch := omega) only [wX_loadIn_14, nI_clamp, zz_in, zz_m4, zz_m6, zz_m14, zz_m16, nI_add, zz_p0, zz_p1, zz_p2, zz_p3, zz_p4, zz_p5, zz_p6, zz_p7, zz_p8, zz_p9, zz_p10, zz_p11, zz_p12, zz_p13, zz_a16, true_and, forall_eq]
    exact br_t (Int32.le_refl _) (xx_blocking ht hc hsc (xx_share hp))
  · intro n i a hi hw
    dsimp only [zz_ls] at hw
    simp (disch := omega) only [wX_loadIn_14, nI_clamp, zz_in, zz_m4, zz_m6, zz_m14, zz_m16, nI_add, zz_p0, zz_p1, zz_p2, zz_p3, zz_p4, zz_p5, zz_p6, zz_p7, zz_p8, zz_p9, zz_p10, zz_p11, zz_p12, zz_p13, zz_a16, true_and, forall_eq]
    refine br_f (nI_ge hi (by omega)) (br_c (fun a1 => ?_) (fun a1 => xx_share ?_))
    · rw [if_pos a1, Int64.add_zero] at hw; exact hw
    · rw [if_neg a1] at hw; exact hw
theorem xx_cond {post : Int32 → Prop} {c : Nat} {w : Int64} (hc : c ≤ 6) (hsc : ∀ t, t < 6 → zz_nat 4 (xsc t)) (h1 : w ≤ 2329089562800 → (∀ t, t < c → zz_load xre xwc xsc xrs xun xfr xto (xre t) c w ≤ 2329089562800) → post 1) (h0 : (¬ w ≤ 2329089562800 ∨ ∃ t, t < c ∧ ¬ zz_load xre xwc xsc xrs xun xfr xto (xre t) c w ≤ 2329089562800) → post 0) : wpX_conditionHolds post (nI mT, nI mS, nI R, nI mQ, nI T, nI N, op, nI M, nI K, xtr, xcp, xlo, xpe, xre, xwc, xus, xst, xln, xdn, xdu, xnx, xco, xmi, xwo, xbl, xsc, xrs, xun, xfr, xto, xbu, xsp, xle, xsd, xex, xql, xqu, xqt, xfa) (nI c) w := by
  simp only [wpX_conditionHolds]
  refine br_c (fun hw => ?_) (fun hw => h0 (Or.inl hw))
  show ∃ n : Nat, wX_conditionHolds_13 post (nI c) w (nI mT) (nI mS) (nI R) (nI mQ) (nI T) (nI N) op (nI M) (nI K) xtr xcp xlo xpe xre xwc xus xst xln xdn xdu xnx xco xmi xwo xbl xsc xrs xun xfr xto xbu xsp xle xsd xex xql xqu xqt xfa n 0
  refine ⟨_, zz_find (fun n i => wX_conditionHolds_13 post (nI c) w (nI mT) (nI mS) (nI R) (nI mQ) (nI T) (nI N) op (nI M) (nI K) xtr xcp xlo xpe xre xwc xus xst xln xdn xdu xnx xco xmi xwo xbl xsc xrs xun xfr xto xbu xsp xle xsd xex xql xqu xqt xfa n (nI i)) (fun t => ¬ zz_load xre xwc xsc xrs xun xfr xto (xre t) c w ≤ 2329089562800) c (post 0) (post 1) ?_ ?_ _ 0 _ (Nat.zero_add _) (Nat.lt_succ_self _) (fun ⟨j, _, h2, q⟩ => h0 (Or.inr ⟨j, h2, q⟩)) (fun h => h1 hw (fun s hs => Decidable.not_not.mp (h s (Nat.zero_le _) hs)))⟩
  · intro n hb
    simp (disch := omega) only [wX_conditionHolds_13, nI_clamp, zz_in, zz_m4, zz_m6, zz_m14, zz_m16, nI_add, zz_p0, zz_p1, zz_p2, zz_p3, zz_p4, zz_p5, zz_p6, zz_p7, zz_p8, zz_p9, zz_p10, zz_p11, zz_p12, zz_p13, zz_a16, true_and, forall_eq]
    exact br_t (Int32.le_refl _) hb
  · intro n i hi ha hw2
    simp (disch := omega) only [wX_conditionHolds_13, nI_clamp, zz_in, zz_m4, zz_m6, zz_m14, zz_m16, nI_add, zz_p0, zz_p1, zz_p2, zz_p3, zz_p4, zz_p5, zz_p6, zz_p7, zz_p8, zz_p9, zz_p10, zz_p11, zz_p12, zz_p13, zz_a16, true_and, forall_eq]
    exact br_f (nI_ge hi (by omega)) (xx_load (by omega) hc hsc (br_c (fun z => hw2 (fun nz => nz z)) (fun z => ha z)))
end
section
/-! the component's queries, second half -/
variable {mT mS R mQ T N M K : Nat} {op : Int32} {xtr xcp xlo xpe xre xwc xus xst xln xdn xdu xnx xco xmi xwo xbl xsc xrs xun xfr xto xbu xsp xle xsd xex xql xqu xqt xfa : Nat → Int32} {yf ysec ysv yqu yqt ylg yfi : Nat → Int32}
theorem xx_heldBy {post : Int32 → Prop} {t : Nat} {r : Int32} (ht : t < 6) (hsc : zz_nat 4 (xsc t)) (h : post (zz_hb xst xdn xsc xrs xun xfr xto r t)) : wpX_heldBy post (nI mT, nI mS, nI R, nI mQ, nI T, nI N, op, nI M, nI K, xtr, xcp, xlo, xpe, xre, xwc, xus, xst, xln, xdn, xdu, xnx, xco, xmi, xwo, xbl, xsc, xrs, xun, xfr, xto, xbu, xsp, xle, xsd, xex, xql, xqu, xqt, xfa) (nI t) r := by
  show ∃ n : Nat, wX_heldBy_5 post (nI t) r (nI mT) (nI mS) (nI R) (nI mQ) (nI T) (nI N) op (nI M) (nI K) xtr xcp xlo xpe xre xwc xus xst xln xdn xdu xnx xco xmi xwo xbl xsc xrs xun xfr xto xbu xsp xle xsd xex xql xqu xqt xfa n 0 0
  refine ⟨_, zz_loop (fun n i a => wX_heldBy_5 post (nI t) r (nI mT) (nI mS) (nI R) (nI mQ) (nI T) (nI N) op (nI M) (nI K) xtr xcp xlo xpe xre xwc xus xst xln xdn xdu xnx xco xmi xwo xbl xsc xrs xun xfr xto xbu xsp xle xsd xex xql xqu xqt xfa n a (nI i)) (fun i a => a + zz_hu xst xdn xrs xun xfr xto r t (4 * t + i)) (zc (xsc t)) post ?_ ?_ _ 0 0 _ (Nat.zero_add _) (Nat.lt_succ_self _) h⟩
  · intro n a hp
    simp (disch := omega) only [wX_heldBy_5, nI_clamp, zz_in, zz_m4, zz_m6, zz_m14, zz_m16, nI_add, zz_p0, zz_p1, zz_p2, zz_p3, zz_p4, zz_p5, zz_p6, zz_p7, zz_p8, zz_p9, zz_p10, zz_p11, zz_p12, zz_p13, zz_a16, true_and, forall_eq]
    exact br_t (zz_nat_ge hsc) hp
  · intro n i a hi hw
    have hi4 : i < 4 := Nat.lt_of_lt_of_le hi hsc.2
    dsimp only [zz_hu] at hw
    simp (disch := omega) only [wX_heldBy_5, nI_clamp, zz_in, zz_m4, zz_m6, zz_m14, zz_m16, nI_add, zz_p0, zz_p1, zz_p2, zz_p3, zz_p4, zz_p5, zz_p6, zz_p7, zz_p8, zz_p9, zz_p10, zz_p11, zz_p12, zz_p13, zz_a16, true_and, forall_eq]
    refine br_f (zz_nat_lt hsc (by decide) hi) (br_c (fun a1 => xx_isHeld ht (by omega) (fun z => br_f (by decide) ?_) (fun z => br_t rfl ?_)) (fun a1 => ?_))
    · rw [if_pos a1, if_pos (show xst t = 2 ∧ ¬ xdn t ≤ xfr (4 * t + i) ∧ ¬ xto (4 * t + i) ≤ xdn t from z)] at hw; exact hw
    · rw [if_pos a1, if_neg (show ¬ (xst t = 2 ∧ ¬ xdn t ≤ xfr (4 * t + i) ∧ ¬ xto (4 * t + i) ≤ xdn t) from z), Int32.add_zero] at hw; exact hw
    · rw [if_neg a1, Int32.add_zero] at hw; exact hw
theorem xx_freeOf {post : Int32 → Prop} {r : Nat} (hr : r < 3) (hN : N ≤ 6) (hsc : ∀ t, t < 6 → zz_nat 4 (xsc t)) (h : post (zz_free xcp (zz_hb xst xdn xsc xrs xun xfr xto) N r)) : wpX_freeOf post (nI mT, nI mS, nI R, nI mQ, nI T, nI N, op, nI M, nI K, xtr, xcp, xlo, xpe, xre, xwc, xus, xst, xln, xdn, xdu, xnx, xco, xmi, xwo, xbl, xsc, xrs, xun, xfr, xto, xbu, xsp, xle, xsd, xex, xql, xqu, xqt, xfa) (nI r) := by
  simp (disch := omega) only [wpX_freeOf, nI_clamp, zz_in, zz_m4, zz_m6, zz_m14, zz_m16, nI_add, zz_p0, zz_p1, zz_p2, zz_p3, zz_p4, zz_p5, zz_p6, zz_p7, zz_p8, zz_p9, zz_p10, zz_p11, zz_p12, zz_p13, zz_a16, true_and, forall_eq]
  show ∃ n : Nat, wX_freeOf_9 post (nI r) (nI mT) (nI mS) (nI R) (nI mQ) (nI T) (nI N) op (nI M) (nI K) xtr xcp xlo xpe xre xwc xus xst xln xdn xdu xnx xco xmi xwo xbl xsc xrs xun xfr xto xbu xsp xle xsd xex xql xqu xqt xfa n (xcp r) 0
  unfold zz_free at h
  rw [← zz_fold_sub] at h
  refine ⟨_, zz_loop (fun n i a => wX_freeOf_9 post (nI r) (nI mT) (nI mS) (nI R) (nI mQ) (nI T) (nI N) op (nI M) (nI K) xtr xcp xlo xpe xre xwc xus xst xln xdn xdu xnx xco xmi xwo xbl xsc xrs xun xfr xto xbu xsp xle xsd xex xql xqu xqt xfa n a (nI i)) (fun i a => a - zz_hb xst xdn xsc xrs xun xfr xto (nI r) i) N post ?_ ?_ _ 0 (xcp r) _ (Nat.zero_add _) (Nat.lt_succ_self _) h⟩
  · intro n a hp
    simp (disch := omega) only [wX_freeOf_9, nI_clamp, zz_in, zz_m4, zz_m6, zz_m14, zz_m16, nI_add, zz_p0, zz_p1, zz_p2, zz_p3, zz_p4, zz_p5, zz_p6, zz_p7, zz_p8, zz_p9, zz_p10, zz_p11, zz_p12, zz_p13, zz_a16, true_and, forall_eq]
    exact br_t (Int32.le_refl _) hp
  · intro n i a hi hw
    simp (disch := omega) only [wX_freeOf_9, nI_clamp, zz_in, zz_m4, zz_m6, zz_m14, zz_m16, nI_add, zz_p0, zz_p1, zz_p2, zz_p3, zz_p4, zz_p5, zz_p6, zz_p7, zz_p8, zz_p9, zz_p10, zz_p11, zz_p12, zz_p13, zz_a16, true_and, forall_eq]
    exact br_f (nI_ge hi (by omega)) (xx_heldBy (by omega) (hsc i (by omega)) hw)
theorem xx_usedBy {post : Int32 → Prop} {t : Nat} {r : Int32} (ht : t < 6) (hsc : zz_nat 4 (xsc t)) (h : post (zz_ub xdn xsc xrs xun xfr xto r t)) : wpX_usedBy post (nI mT, nI mS, nI R, nI mQ, nI T, nI N, op, nI M, nI K, xtr, xcp, xlo, xpe, xre, xwc, xus, xst, xln, xdn, xdu, xnx, xco, xmi, xwo, xbl, xsc, xrs, xun, xfr, xto, xbu, xsp, xle, xsd, xex, xql, xqu, xqt, xfa) (nI t) r := by
  simp (disch := omega) only [wpX_usedBy, nI_clamp, zz_in, zz_m4, zz_m6, zz_m14, zz_m16, nI_add, zz_p0, zz_p1, zz_p2, zz_p3, zz_p4, zz_p5, zz_p6, zz_p7, zz_p8, zz_p9, zz_p10, zz_p11, zz_p12, zz_p13, zz_a16, true_and, forall_eq]
  show ∃ n : Nat, wX_usedBy_13 post (nI t) r (xdn t) (nI mT) (nI mS) (nI R) (nI mQ) (nI T) (nI N) op (nI M) (nI K) xtr xcp xlo xpe xre xwc xus xst xln xdn xdu xnx xco xmi xwo xbl xsc xrs xun xfr xto xbu xsp xle xsd xex xql xqu xqt xfa n 0 0
  refine ⟨_, zz_loop (fun n i a => wX_usedBy_13 post (nI t) r (xdn t) (nI mT) (nI mS) (nI R) (nI mQ) (nI T) (nI N) op (nI M) (nI K) xtr xcp xlo xpe xre xwc xus xst xln xdn xdu xnx xco xmi xwo xbl xsc xrs xun xfr xto xbu xsp xle xsd xex xql xqu xqt xfa n a (nI i)) (fun i a => a + zz_uu xdn xrs xun xfr xto r t (4 * t + i)) (zc (xsc t)) post ?_ ?_ _ 0 0 _ (Nat.zero_add _) (Nat.lt_succ_self _) h⟩
  · intro n a hp
    simp (disch := omega) only [wX_usedBy_13, nI_clamp, zz_in, zz_m4, zz_m6, zz_m14, zz_m16, nI_add, zz_p0, zz_p1, zz_p2, zz_p3, zz_p4, zz_p5, zz_p6, zz_p7, zz_p8, zz_p9, zz_p10, zz_p11, zz_p12, zz_p13, zz_a16, true_and, forall_eq]
    exact br_t (zz_nat_ge hsc) hp
  · intro n i a hi hw
    have hi4 : i < 4 := Nat.lt_of_lt_of_le hi hsc.2
    dsimp only [zz_uu] at hw
    simp (disch := omega) only [wX_usedBy_13, nI_clamp, zz_in, zz_m4, zz_m6, zz_m14, zz_m16, nI_add, zz_p0, zz_p1, zz_p2, zz_p3, zz_p4, zz_p5, zz_p6, zz_p7, zz_p8, zz_p9, zz_p10, zz_p11, zz_p12, zz_p13, zz_a16, true_and, forall_eq]
    refine br_f (zz_nat_lt hsc (by decide) hi) (br_c (fun a1 => br_c (fun a2 => ?_) (fun a2 => br_c (fun a3 => ?_) (fun a3 => ?_))) (fun a1 => ?_))
    · rw [if_pos a1, if_pos a2, Int32.add_zero] at hw; exact hw
    · rw [if_pos a1, if_neg a2, if_pos a3, Int32.add_zero] at hw; exact hw
    · rw [if_pos a1, if_neg a2, if_neg a3] at hw; exact hw
    · rw [if_neg a1, Int32.add_zero] at hw; exact hw
theorem xx_ceiling {post : Int32 → Prop} (hR : R ≤ 3) (hN : N ≤ 6) (hsc : ∀ t, t < 6 → zz_nat 4 (xsc t)) (h : post (zz_cX xre (zz_need xsc xrs xun) (zz_free xcp (zz_hb xst xdn xsc xrs xun xfr xto) N) N R)) : wpX_ceiling post (nI mT, nI mS, nI R, nI mQ, nI T, nI N, op, nI M, nI K, xtr, xcp, xlo, xpe, xre, xwc, xus, xst, xln, xdn, xdu, xnx, xco, xmi, xwo, xbl, xsc, xrs, xun, xfr, xto, xbu, xsp, xle, xsd, xex, xql, xqu, xqt, xfa) := by
  show ∃ n : Nat, wX_ceiling_5 post (nI mT) (nI mS) (nI R) (nI mQ) (nI T) (nI N) op (nI M) (nI K) xtr xcp xlo xpe xre xwc xus xst xln xdn xdu xnx xco xmi xwo xbl xsc xrs xun xfr xto xbu xsp xle xsd xex xql xqu xqt xfa n (-6) 0
  refine ⟨_, zz_loop (fun n i a => wX_ceiling_5 post (nI mT) (nI mS) (nI R) (nI mQ) (nI T) (nI N) op (nI M) (nI K) xtr xcp xlo xpe xre xwc xus xst xln xdn xdu xnx xco xmi xwo xbl xsc xrs xun xfr xto xbu xsp xle xsd xex xql xqu xqt xfa n a (nI i)) (fun r a => zz_fold (fun k a => zz_cs xre (zz_need xsc xrs xun (nI r) k) (zz_free xcp (zz_hb xst xdn xsc xrs xun xfr xto) N r) k a) N 0 a) R post ?_ ?_ _ 0 (-6) _ (Nat.zero_add _) (Nat.lt_succ_self _) h⟩
  · intro n a hp
    simp (disch := omega) only [wX_ceiling_5, nI_clamp, zz_in, zz_m4, zz_m6, zz_m14, zz_m16, nI_add, zz_p0, zz_p1, zz_p2, zz_p3, zz_p4, zz_p5, zz_p6, zz_p7, zz_p8, zz_p9, zz_p10, zz_p11, zz_p12, zz_p13, zz_a16, true_and, forall_eq]
    exact br_t (Int32.le_refl _) hp
  · intro n r a hr hw
    simp (disch := omega) only [wX_ceiling_5, nI_clamp, zz_in, zz_m4, zz_m6, zz_m14, zz_m16, nI_add, zz_p0, zz_p1, zz_p2, zz_p3, zz_p4, zz_p5, zz_p6, zz_p7, zz_p8, zz_p9, zz_p10, zz_p11, zz_p12, zz_p13, zz_a16, true_and, forall_eq]
    refine br_f (nI_ge hr (by omega)) (xx_freeOf (by omega) hN hsc ⟨_, zz_loop (fun m i a => wX_ceiling_22 post (wX_ceiling_5 post (nI mT) (nI mS) (nI R) (nI mQ) (nI T) (nI N) op (nI M) (nI K) xtr xcp xlo xpe xre xwc xus xst xln xdn xdu xnx xco xmi xwo xbl xsc xrs xun xfr xto xbu xsp xle xsd xex xql xqu xqt xfa n) (nI r) (zz_free xcp (zz_hb xst xdn xsc xrs xun xfr xto) N r) (nI mT) (nI mS) (nI R) (nI mQ) (nI T) (nI N) op (nI M) (nI K) xtr xcp xlo xpe xre xwc xus xst xln xdn xdu xnx xco xmi xwo xbl xsc xrs xun xfr xto xbu xsp xle xsd xex xql xqu xqt xfa m a (nI i)) (fun k a => zz_cs xre (zz_need xsc xrs xun (nI r) k) (zz_free xcp (zz_hb xst xdn xsc xrs xun xfr xto) N r) k a) N (fun a => wX_ceiling_5 post (nI mT) (nI mS) (nI R) (nI mQ) (nI T) (nI N) op (nI M) (nI K) xtr xcp xlo xpe xre xwc xus xst xln xdn xdu xnx xco xmi xwo xbl xsc xrs xun xfr xto xbu xsp xle xsd xex xql xqu xqt xfa n a (nI (r + 1))) ?_ ?_ _ 0 a _ (Nat.zero_add _) (Nat.lt_succ_self _) hw⟩)
    · intro m b hp
      simp (disch := omega) only [wX_ceiling_22, nI_clamp, zz_in, zz_m4, zz_m6, zz_m14, zz_m16, nI_add, zz_p0, zz_p1, zz_p2, zz_p3, zz_p4, zz_p5, zz_p6, zz_p7, zz_p8, zz_p9, zz_p10, zz_p11, zz_p12, zz_p13, zz_a16, true_and, forall_eq]
      exact br_t (Int32.le_refl _) hp
    · intro m k b hk hw2
      dsimp only [zz_cs] at hw2
      simp (disch := omega) only [wX_ceiling_22, nI_clamp, zz_in, zz_m4, zz_m6, zz_m14, zz_m16, nI_add, zz_p0, zz_p1, zz_p2, zz_p3, zz_p4, zz_p5, zz_p6, zz_p7, zz_p8, zz_p9, zz_p10, zz_p11, zz_p12, zz_p13, zz_a16, true_and, forall_eq]
      refine br_f (nI_ge hk (by omega)) (xx_need (by omega) (hsc k (by omega)) (br_c (fun a1 => ?_) (fun a1 => br_c (fun a2 => ?_) (fun a2 => br_c (fun a3 => ?_) (fun a3 => ?_)))))
      · rw [if_pos a1] at hw2; exact hw2
      · rw [if_neg a1, if_pos a2] at hw2; exact hw2
      · rw [if_neg a1, if_neg a2, if_pos a3] at hw2; exact hw2
      · rw [if_neg a1, if_neg a2, if_neg a3] at hw2; exact hw2
/-- none, or a number below b -/
def zz_op (b : Nat) (a : Int32) : Prop := a = -9 ∨ ∃ j, j < b ∧ a = nI j
theorem zz_op_u1 {st du : Nat → Int32} {x : Int32} {k b : Nat} {a : Int32} (hk : k < b) (h : zz_op b a) : zz_op b (zz_u1 st du x k a) := by
  unfold zz_u1
  by_cases h1 : st k < x
  · rw [if_pos h1]; exact h
  · rw [if_neg h1]
    by_cases h2 : a < 0
    · rw [if_pos h2]; exact Or.inr ⟨k, hk, rfl⟩
    · rw [if_neg h2]
      by_cases h3 : du (zc a) ≤ du k
      · rw [if_pos h3]; exact h
      · rw [if_neg h3]; exact Or.inr ⟨k, hk, rfl⟩
theorem zz_op_u2 {ql sd : Nat → Int32} {k b : Nat} {a : Int32} (hk : k < b) (h : zz_op b a) : zz_op b (zz_u2 ql sd k a) := by
  unfold zz_u2
  by_cases h1 : ql k ≤ 0
  · rw [if_pos h1]; exact h
  · rw [if_neg h1]
    by_cases h2 : a < 0
    · rw [if_pos h2]; exact Or.inr ⟨k, hk, rfl⟩
    · rw [if_neg h2]
      by_cases h3 : sd (zc a) ≤ sd k
      · rw [if_pos h3]; exact h
      · rw [if_neg h3]; exact Or.inr ⟨k, hk, rfl⟩
theorem zz_op_in {b : Nat} {a : Int32} (hb : b < 2 ^ 31) (h : zz_op b a) (h2 : ¬ a < 0) : vp_in a b := by
  rcases h with h | ⟨j, hj, e⟩
  · exact absurd (by rw [h]; decide) h2
  · rw [e]; exact vp_in_nI hj hb
theorem xx_urgentTask {post : Int32 → Prop} {x : Int32} (hN : N ≤ 6) (h : post (zz_ut xst xdu x N)) : wpX_urgentTask post (nI mT, nI mS, nI R, nI mQ, nI T, nI N, op, nI M, nI K, xtr, xcp, xlo, xpe, xre, xwc, xus, xst, xln, xdn, xdu, xnx, xco, xmi, xwo, xbl, xsc, xrs, xun, xfr, xto, xbu, xsp, xle, xsd, xex, xql, xqu, xqt, xfa) x := by
  show ∃ n : Nat, wX_urgentTask_5 post x (nI mT) (nI mS) (nI R) (nI mQ) (nI T) (nI N) op (nI M) (nI K) xtr xcp xlo xpe xre xwc xus xst xln xdn xdu xnx xco xmi xwo xbl xsc xrs xun xfr xto xbu xsp xle xsd xex xql xqu xqt xfa n (-9) 0
  refine ⟨_, zz_loopI (fun n i a => wX_urgentTask_5 post x (nI mT) (nI mS) (nI R) (nI mQ) (nI T) (nI N) op (nI M) (nI K) xtr xcp xlo xpe xre xwc xus xst xln xdn xdu xnx xco xmi xwo xbl xsc xrs xun xfr xto xbu xsp xle xsd xex xql xqu xqt xfa n a (nI i)) (zz_u1 xst xdu x) N post (zz_op 6) (fun i a hi q => zz_op_u1 (by omega) q) ?_ ?_ _ 0 (-9) _ (Nat.zero_add _) (Nat.lt_succ_self _) (Or.inl rfl) h⟩
  · intro n a q hp
    simp (disch := omega) only [wX_urgentTask_5, nI_clamp, zz_in, zz_m4, zz_m6, zz_m14, zz_m16, nI_add, zz_p0, zz_p1, zz_p2, zz_p3, zz_p4, zz_p5, zz_p6, zz_p7, zz_p8, zz_p9, zz_p10, zz_p11, zz_p12, zz_p13, zz_a16, true_and, forall_eq]
    exact br_t (Int32.le_refl _) hp
  · intro n i a hi q hw
    dsimp only [zz_u1] at hw
    simp (disch := omega) only [wX_urgentTask_5, nI_clamp, zz_in, zz_m4, zz_m6, zz_m14, zz_m16, nI_add, zz_p0, zz_p1, zz_p2, zz_p3, zz_p4, zz_p5, zz_p6, zz_p7, zz_p8, zz_p9, zz_p10, zz_p11, zz_p12, zz_p13, zz_a16, true_and, forall_eq]
    refine br_f (nI_ge hi (by omega)) (br_c (fun a1 => ?_) (fun a1 => br_c (fun a2 => ?_) (fun a2 => ⟨zz_op_in (by decide) q a2, br_c (fun a3 => ?_) (fun a3 => ?_)⟩)))
    · rw [if_pos a1] at hw; exact hw
    · rw [if_neg a1, if_pos a2] at hw; exact hw
    · rw [if_neg a1, if_neg a2, if_pos (show xdu (zc a) ≤ xdu i from a3)] at hw; exact hw
    · rw [if_neg a1, if_neg a2, if_neg (show ¬ xdu (zc a) ≤ xdu i from a3)] at hw; exact hw
theorem xx_urgentServer {post : Int32 → Prop} (hM : M ≤ 3) (h : post (zz_us xql xsd M)) : wpX_urgentServer post (nI mT, nI mS, nI R, nI mQ, nI T, nI N, op, nI M, nI K, xtr, xcp, xlo, xpe, xre, xwc, xus, xst, xln, xdn, xdu, xnx, xco, xmi, xwo, xbl, xsc, xrs, xun, xfr, xto, xbu, xsp, xle, xsd, xex, xql, xqu, xqt, xfa) := by
  show ∃ n : Nat, wX_urgentServer_5 post (nI mT) (nI mS) (nI R) (nI mQ) (nI T) (nI N) op (nI M) (nI K) xtr xcp xlo xpe xre xwc xus xst xln xdn xdu xnx xco xmi xwo xbl xsc xrs xun xfr xto xbu xsp xle xsd xex xql xqu xqt xfa n (-9) 0
  refine ⟨_, zz_loopI (fun n i a => wX_urgentServer_5 post (nI mT) (nI mS) (nI R) (nI mQ) (nI T) (nI N) op (nI M) (nI K) xtr xcp xlo xpe xre xwc xus xst xln xdn xdu xnx xco xmi xwo xbl xsc xrs xun xfr xto xbu xsp xle xsd xex xql xqu xqt xfa n a (nI i)) (zz_u2 xql xsd) M post (zz_op 3) (fun i a hi q => zz_op_u2 (by omega) q) ?_ ?_ _ 0 (-9) _ (Nat.zero_add _) (Nat.lt_succ_self _) (Or.inl rfl) h⟩
  · intro n a q hp
    simp (disch := omega) only [wX_urgentServer_5, nI_clamp, zz_in, zz_m4, zz_m6, zz_m14, zz_m16, nI_add, zz_p0, zz_p1, zz_p2, zz_p3, zz_p4, zz_p5, zz_p6, zz_p7, zz_p8, zz_p9, zz_p10, zz_p11, zz_p12, zz_p13, zz_a16, true_and, forall_eq]
    exact br_t (Int32.le_refl _) hp
  · intro n i a hi q hw
    dsimp only [zz_u2] at hw
    simp (disch := omega) only [wX_urgentServer_5, nI_clamp, zz_in, zz_m4, zz_m6, zz_m14, zz_m16, nI_add, zz_p0, zz_p1, zz_p2, zz_p3, zz_p4, zz_p5, zz_p6, zz_p7, zz_p8, zz_p9, zz_p10, zz_p11, zz_p12, zz_p13, zz_a16, true_and, forall_eq]
    refine br_f (nI_ge hi (by omega)) (br_c (fun a1 => ?_) (fun a1 => br_c (fun a2 => ?_) (fun a2 => ⟨zz_op_in (by decide) q a2, br_c (fun a3 => ?_) (fun a3 => ?_)⟩)))
    · rw [if_pos a1] at hw; exact hw
    · rw [if_neg a1, if_pos a2] at hw; exact hw
    · rw [if_neg a1, if_neg a2, if_pos (show xsd (zc a) ≤ xsd i from a3)] at hw; exact hw
    · rw [if_neg a1, if_neg a2, if_neg (show ¬ xsd (zc a) ≤ xsd i from a3)] at hw; exact hw
/-! range tests -/
theorem xx_isResource {post : Int32 → Prop} {r : Int32} (hR : R ≤ 3) (h1 : ∀ j, j < R → r = nI j → post 1) (h0 : (r < 0 ∨ nI R ≤ r) → post 0) : wpX_isResource post (nI mT, nI mS, nI R, nI mQ, nI T, nI N, op, nI M, nI K, xtr, xcp, xlo, xpe, xre, xwc, xus, xst, xln, xdn, xdu, xnx, xco, xmi, xwo, xbl, xsc, xrs, xun, xfr, xto, xbu, xsp, xle, xsd, xex, xql, xqu, xqt, xfa) r := by
  simp only [wpX_isResource]
  refine br_c (fun a => h0 (Or.inl a)) (fun a => br_c (fun b => h0 (Or.inr b)) (fun b => ?_))
  rcases pk_ix r (n := R) (by omega) with z | z | ⟨j, hj, e⟩
  · exact absurd z a
  · exact absurd z b
  · exact h1 j hj e
theorem xx_isAdmitted {post : Int32 → Prop} {r : Int32} (hN : N ≤ 6) (h1 : ∀ j, j < N → r = nI j → post 1) (h0 : (r < 0 ∨ nI N ≤ r) → post 0) : wpX_isAdmitted post (nI mT, nI mS, nI R, nI mQ, nI T, nI N, op, nI M, nI K, xtr, xcp, xlo, xpe, xre, xwc, xus, xst, xln, xdn, xdu, xnx, xco, xmi, xwo, xbl, xsc, xrs, xun, xfr, xto, xbu, xsp, xle, xsd, xex, xql, xqu, xqt, xfa) r := by
  simp only [wpX_isAdmitted]
  refine br_c (fun a => h0 (Or.inl a)) (fun a => br_c (fun b => h0 (Or.inr b)) (fun b => ?_))
  rcases pk_ix r (n := N) (by omega) with z | z | ⟨j, hj, e⟩
  · exact absurd z a
  · exact absurd z b
  · exact h1 j hj e
theorem xx_isServer {post : Int32 → Prop} {r : Int32} (hM : M ≤ 3) (h1 : ∀ j, j < M → r = nI j → post 1) (h0 : (r < 0 ∨ nI M ≤ r) → post 0) : wpX_isServer post (nI mT, nI mS, nI R, nI mQ, nI T, nI N, op, nI M, nI K, xtr, xcp, xlo, xpe, xre, xwc, xus, xst, xln, xdn, xdu, xnx, xco, xmi, xwo, xbl, xsc, xrs, xun, xfr, xto, xbu, xsp, xle, xsd, xex, xql, xqu, xqt, xfa) r := by
  simp only [wpX_isServer]
  refine br_c (fun a => h0 (Or.inl a)) (fun a => br_c (fun b => h0 (Or.inr b)) (fun b => ?_))
  rcases pk_ix r (n := M) (by omega) with z | z | ⟨j, hj, e⟩
  · exact absurd z a
  · exact absurd z b
  · exact h1 j hj e
end
section
/-! the reference's queries: the same pure values -/
variable {mT mS R mQ T N M K : Nat} {op : Int32} {xtr xcp xlo xpe xre xwc xus xst xln xdn xdu xnx xco xmi xwo xbl xsc xrs xun xfr xto xbu xsp xle xsd xex xql xqu xqt xfa : Nat → Int32} {yf ysec ysv yqu yqt ylg yfi : Nat → Int32}
def zz_FQ (N : Nat) (xre xwc xst xdn xsc yf : Nat → Int32) : Prop := (∀ t, t < 6 → yf (14 * t + 1) = xre t) ∧ (∀ t, t < 6 → yf (14 * t + 2) = xwc t) ∧ (∀ t, t < N → yf (14 * t + 4) = xst t) ∧ (∀ t, t < 6 → yf (14 * t + 6) = xdn t) ∧ (∀ t, t < 6 → yf (14 * t + 13) = xsc t)
def zz_SQ (xrs xun xfr xto ysec : Nat → Int32) : Prop := (∀ t s, t < 6 → s < 4 → ysec (16 * t + 4 * s) = xrs (4 * t + s)) ∧ (∀ t s, t < 6 → s < 4 → ysec (16 * t + 4 * s + 1) = xun (4 * t + s)) ∧ (∀ t s, t < 6 → s < 4 → ysec (16 * t + 4 * s + 2) = xfr (4 * t + s)) ∧ (∀ t s, t < 6 → s < 4 → ysec (16 * t + 4 * s + 3) = xto (4 * t + s))
theorem zz_nat_ex {b : Nat} {x : Int32} (h : zz_nat b x) : ∃ c, c ≤ b ∧ x = nI c := ⟨zc x, h.2, h.1⟩
theorem zz_fold_id {σ : Type} : ∀ (d i : Nat) (a : σ), zz_fold (fun _ a => a) d i a = a := by
  intro d
  induction d with
  | zero => intro i a; rfl
  | succ d ih => intro i a; exact ih (i + 1) a
theorem yy_held {post : Int32 → Prop} {t s : Nat} (ht : t < N) (hs : s < 4) (hN : N ≤ 6) (hF : zz_FQ N xre xwc xst xdn xsc yf) (hS : zz_SQ xrs xun xfr xto ysec) (h1 : zz_H xst xdn xfr xto t (4 * t + s) → post 1) (h0 : ¬ zz_H xst xdn xfr xto t (4 * t + s) → post 0) : wpY_held post (nI mT, nI mS, nI R, nI mQ, nI T, nI N, op, nI M, nI K, yf, ysec, ysv, yqu, yqt, xcp, xlo, ylg, yfi) (nI t) (nI s) := by
  obtain ⟨f1, f2, f4, f6, f13⟩ := hF
  obtain ⟨s0, s1, s2, s3⟩ := hS
  simp (disch := omega) only [wpY_held, f4, f6, s2, s3, nI_clamp, zz_in, zz_m4, zz_m6, zz_m14, zz_m16, nI_add, zz_p0, zz_p1, zz_p2, zz_p3, zz_p4, zz_p5, zz_p6, zz_p7, zz_p8, zz_p9, zz_p10, zz_p11, zz_p12, zz_p13, zz_a16, true_and, forall_eq]
  exact br_c (fun a => br_c (fun b => h0 (fun z => z.2.1 b)) (fun b => br_c (fun c => h0 (fun z => z.2.2 c)) (fun c => h1 ⟨a, b, c⟩))) (fun a => h0 (fun z => a z.1))
theorem yy_hasJob {post : Int32 → Prop} {t : Nat} (ht : t < N) (hN : N ≤ 6) (f4 : ∀ t, t < N → yf (14 * t + 4) = xst t) (h1 : (xst t = 1 ∨ xst t = 2) → post 1) (h0 : ¬ xst t = 1 → ¬ xst t = 2 → post 0) : wpY_hasJob post (nI mT, nI mS, nI R, nI mQ, nI T, nI N, op, nI M, nI K, yf, ysec, ysv, yqu, yqt, xcp, xlo, ylg, yfi) (nI t) := by
  simp (disch := omega) only [wpY_hasJob, f4, nI_clamp, zz_in, zz_m4, zz_m6, zz_m14, zz_m16, nI_add, zz_p0, zz_p1, zz_p2, zz_p3, zz_p4, zz_p5, zz_p6, zz_p7, zz_p8, zz_p9, zz_p10, zz_p11, zz_p12, zz_p13, zz_a16, true_and, forall_eq]
  exact br_c (fun a => h1 (Or.inl a)) (fun a => br_c (fun b => h1 (Or.inr b)) (fun b => h0 a b))
theorem yy_hu17 {post : Int32 → Prop} {J : Int32 → Int32 → Prop} {t : Nat} {r e a : Int32} (ht : t < N) (hN : N ≤ 6) (hsc : ∀ t, t < 6 → zz_nat 4 (xsc t)) (hF : zz_FQ N xre xwc xst xdn xsc yf) (hS : zz_SQ xrs xun xfr xto ysec) (h : J (a + (if nI t = e then 0 else zz_hb xst xdn xsc xrs xun xfr xto r t)) (nI (t + 1))) : ∃ n : Nat, wY_heldUnits_17 post J r e (nI t) (nI mT) (nI mS) (nI R) (nI mQ) (nI T) (nI N) op (nI M) (nI K) yf ysec ysv yqu yqt xcp xlo ylg yfi n a 0 := by
  have hsct := hsc t (by omega)
  have hF' := hF
  obtain ⟨f1, f2, f4, f6, f13⟩ := hF
  have hS' := hS
  obtain ⟨s0, s1, s2, s3⟩ := hS
  by_cases he : nI t = e
  · rw [if_pos he, Int32.add_zero] at h
    refine ⟨_, zz_loop (fun n i a => wY_heldUnits_17 post J r e (nI t) (nI mT) (nI mS) (nI R) (nI mQ) (nI T) (nI N) op (nI M) (nI K) yf ysec ysv yqu yqt xcp xlo ylg yfi n a (nI i)) (fun _ a => a) (zc (xsc t)) (fun a => J a (nI (t + 1))) ?_ ?_ _ 0 a _ (Nat.zero_add _) (Nat.lt_succ_self _) (by rw [zz_fold_id]; exact h)⟩
    · intro n b hp
      simp (disch := omega) only [wY_heldUnits_17, f13, nI_clamp, zz_in, zz_m4, zz_m6, zz_m14, zz_m16, nI_add, zz_p0, zz_p1, zz_p2, zz_p3, zz_p4, zz_p5, zz_p6, zz_p7, zz_p8, zz_p9, zz_p10, zz_p11, zz_p12, zz_p13, zz_a16, true_and, forall_eq]
      exact br_t (zz_nat_ge hsct) hp
    · intro n i b hi hw
      simp (disch := omega) only [wY_heldUnits_17, f13, nI_clamp, zz_in, zz_m4, zz_m6, zz_m14, zz_m16, nI_add, zz_p0, zz_p1, zz_p2, zz_p3, zz_p4, zz_p5, zz_p6, zz_p7, zz_p8, zz_p9, zz_p10, zz_p11, zz_p12, zz_p13, zz_a16, true_and, forall_eq]
      exact br_f (zz_nat_lt hsct (by decide) hi) (br_t he hw)
  · rw [if_neg he] at h
    unfold zz_hb at h
    rw [← zz_fold_add] at h
    refine ⟨_, zz_loop (fun n i a => wY_heldUnits_17 post J r e (nI t) (nI mT) (nI mS) (nI R) (nI mQ) (nI T) (nI N) op (nI M) (nI K) yf ysec ysv yqu yqt xcp xlo ylg yfi n a (nI i)) (fun i a => a + zz_hu xst xdn xrs xun xfr xto r t (4 * t + i)) (zc (xsc t)) (fun a => J a (nI (t + 1))) ?_ ?_ _ 0 a _ (Nat.zero_add _) (Nat.lt_succ_self _) h⟩
    · intro n b hp
      simp (disch := omega) only [wY_heldUnits_17, f13, nI_clamp, zz_in, zz_m4, zz_m6, zz_m14, zz_m16, nI_add, zz_p0, zz_p1, zz_p2, zz_p3, zz_p4, zz_p5, zz_p6, zz_p7, zz_p8, zz_p9, zz_p10, zz_p11, zz_p12, zz_p13, zz_a16, true_and, forall_eq]
      exact br_t (zz_nat_ge hsct) hp
    · intro n i b hi hw
      have hi4 : i < 4 := Nat.lt_of_lt_of_le hi hsct.2
      dsimp only [zz_hu] at hw
      simp (disch := omega) only [wY_heldUnits_17, f13, s0, s1, nI_clamp, zz_in, zz_m4, zz_m6, zz_m14, zz_m16, nI_add, zz_p0, zz_p1, zz_p2, zz_p3, zz_p4, zz_p5, zz_p6, zz_p7, zz_p8, zz_p9, zz_p10, zz_p11, zz_p12, zz_p13, zz_a16, true_and, forall_eq]
      refine br_f (zz_nat_lt hsct (by decide) hi) (br_f he (br_c (fun a1 => yy_held ht hi4 hN hF' hS' (fun z => br_f (by decide) ?_) (fun z => br_t rfl ?_)) (fun a1 => ?_)))
      · rw [if_pos a1, if_pos (show xst t = 2 ∧ ¬ xdn t ≤ xfr (4 * t + i) ∧ ¬ xto (4 * t + i) ≤ xdn t from z)] at hw; exact hw
      · rw [if_pos a1, if_neg (show ¬ (xst t = 2 ∧ ¬ xdn t ≤ xfr (4 * t + i) ∧ ¬ xto (4 * t + i) ≤ xdn t) from z), Int32.add_zero] at hw; exact hw
      · rw [if_neg a1, Int32.add_zero] at hw; exact hw
theorem yy_heldUnits {post : Int32 → Prop} {r e : Int32} (hN : N ≤ 6) (hsc : ∀ t, t < 6 → zz_nat 4 (xsc t)) (hF : zz_FQ N xre xwc xst xdn xsc yf) (hS : zz_SQ xrs xun xfr xto ysec) (h : post (zz_sum (fun t => if nI t = e then 0 else zz_hb xst xdn xsc xrs xun xfr xto r t) N 0)) : wpY_heldUnits post (nI mT, nI mS, nI R, nI mQ, nI T, nI N, op, nI M, nI K, yf, ysec, ysv, yqu, yqt, xcp, xlo, ylg, yfi) r e := by
  show ∃ n : Nat, wY_heldUnits_5 post r e (nI mT) (nI mS) (nI R) (nI mQ) (nI T) (nI N) op (nI M) (nI K) yf ysec ysv yqu yqt xcp xlo ylg yfi n 0 0
  refine ⟨_, zz_loop (fun n i a => wY_heldUnits_5 post r e (nI mT) (nI mS) (nI R) (nI mQ) (nI T) (nI N) op (nI M) (nI K) yf ysec ysv yqu yqt xcp xlo ylg yfi n a (nI i)) (fun t a => a + (if nI t = e then 0 else zz_hb xst xdn xsc xrs xun xfr xto r t)) N post ?_ ?_ _ 0 0 _ (Nat.zero_add _) (Nat.lt_succ_self _) h⟩
  · intro n a hp
    simp (disch := omega) only [wY_heldUnits_5, nI_clamp, zz_in, zz_m4, zz_m6, zz_m14, zz_m16, nI_add, zz_p0, zz_p1, zz_p2, zz_p3, zz_p4, zz_p5, zz_p6, zz_p7, zz_p8, zz_p9, zz_p10, zz_p11, zz_p12, zz_p13, zz_a16, true_and, forall_eq]
    exact br_t (Int32.le_refl _) hp
  · intro n i a hi hw
    simp (disch := omega) only [wY_heldUnits_5, nI_clamp, zz_in, zz_m4, zz_m6, zz_m14, zz_m16, nI_add, zz_p0, zz_p1, zz_p2, zz_p3, zz_p4, zz_p5, zz_p6, zz_p7, zz_p8, zz_p9, zz_p10, zz_p11, zz_p12, zz_p13, zz_a16, true_and, forall_eq]
    exact br_f (nI_ge hi (by omega)) (yy_hu17 hi hN hsc hF hS hw)
theorem zz_nm1 {t : Nat} (ht : t < 2 ^ 31) : ¬ nI t = -1 := by
  intro z
  exact nI_pos ht (by rw [z]; decide)
theorem yy_freeUnits {post : Int32 → Prop} {r : Nat} (hr : r < R) (hR : R ≤ 3) (hN : N ≤ 6) (hsc : ∀ t, t < 6 → zz_nat 4 (xsc t)) (hF : zz_FQ N xre xwc xst xdn xsc yf) (hS : zz_SQ xrs xun xfr xto ysec) (h : post (zz_free xcp (zz_hb xst xdn xsc xrs xun xfr xto) N r)) : wpY_freeUnits post (nI mT, nI mS, nI R, nI mQ, nI T, nI N, op, nI M, nI K, yf, ysec, ysv, yqu, yqt, xcp, xlo, ylg, yfi) (nI r) := by
  simp (disch := omega) only [wpY_freeUnits, nI_clamp, zz_in, zz_m4, zz_m6, zz_m14, zz_m16, nI_add, zz_p0, zz_p1, zz_p2, zz_p3, zz_p4, zz_p5, zz_p6, zz_p7, zz_p8, zz_p9, zz_p10, zz_p11, zz_p12, zz_p13, zz_a16, true_and, forall_eq]
  refine br_f (nI_pos (by omega)) (br_t (nI_lt hr (by omega)) (yy_heldUnits hN hsc hF hS ?_))
  have e : zz_sum (fun t => if nI t = -1 then 0 else zz_hb xst xdn xsc xrs xun xfr xto (nI r) t) N 0 = zz_sum (zz_hb xst xdn xsc xrs xun xfr xto (nI r)) N 0 :=
    zz_sum_congr N 0 (fun j _ hj => if_neg (zz_nm1 (by omega)))
  rw [e]
  exact h
theorem yy_need {post : Int32 → Prop} {t : Nat} {r : Int32} (ht : t < 6) (hsc : ∀ t, t < 6 → zz_nat 4 (xsc t)) (hF : zz_FQ N xre xwc xst xdn xsc yf) (hS : zz_SQ xrs xun xfr xto ysec) (h : post (zz_need xsc xrs xun r t)) : wpY_need post (nI mT, nI mS, nI R, nI mQ, nI T, nI N, op, nI M, nI K, yf, ysec, ysv, yqu, yqt, xcp, xlo, ylg, yfi) (nI t) r := by
  obtain ⟨f1, f2, f4, f6, f13⟩ := hF
  obtain ⟨s0, s1, s2, s3⟩ := hS
  obtain ⟨c, hc, ec⟩ := zz_nat_ex (hsc t ht)
  unfold zz_need at h
  rw [ec, zc_nI (by omega)] at h
  simp (disch := omega) only [wpY_need, nI_clamp, zz_in, zz_m4, zz_m6, zz_m14, zz_m16, nI_add, zz_p0, zz_p1, zz_p2, zz_p3, zz_p4, zz_p5, zz_p6, zz_p7, zz_p8, zz_p9, zz_p10, zz_p11, zz_p12, zz_p13, zz_a16, true_and, forall_eq]
  show ∃ n : Nat, wY_need_8 post (nI t) r (nI mT) (nI mS) (nI R) (nI mQ) (nI T) (nI N) op (nI M) (nI K) yf ysec ysv yqu yqt xcp xlo ylg yfi n 0 (nI (16 * t))
  refine ⟨_, zz_loop (fun n i a => wY_need_8 post (nI t) r (nI mT) (nI mS) (nI R) (nI mQ) (nI T) (nI N) op (nI M) (nI K) yf ysec ysv yqu yqt xcp xlo ylg yfi n a (nI (16 * t + 4 * i))) (fun i a => zz_ns xrs xun r (4 * t + i) a) c post ?_ ?_ _ 0 0 _ (Nat.zero_add _) (Nat.lt_succ_self _) h⟩
  · intro n a hp
    simp (disch := omega) only [wY_need_8, f13, ec, nI_clamp, zz_in, zz_m4, zz_m6, zz_m14, zz_m16, nI_add, zz_p0, zz_p1, zz_p2, zz_p3, zz_p4, zz_p5, zz_p6, zz_p7, zz_p8, zz_p9, zz_p10, zz_p11, zz_p12, zz_p13, zz_a16, true_and, forall_eq]
    exact br_t (Int32.le_refl _) hp
  · intro n i a hi hw
    dsimp only [zz_ns] at hw
    rw [show 16 * t + 4 * (i + 1) = 16 * t + 4 * i + 4 from by omega] at hw
    simp (disch := omega) only [wY_need_8, f13, ec, s0, s1, nI_clamp, zz_in, zz_m4, zz_m6, zz_m14, zz_m16, nI_add, zz_p0, zz_p1, zz_p2, zz_p3, zz_p4, zz_p5, zz_p6, zz_p7, zz_p8, zz_p9, zz_p10, zz_p11, zz_p12, zz_p13, zz_a16, true_and, forall_eq]
    refine br_f (nI_ge (by omega) (by omega)) (br_c (fun a1 => br_c (fun a2 => ?_) (fun a2 => ?_)) (fun a1 => ?_))
    · rw [if_pos a1, if_pos a2] at hw; exact hw
    · rw [if_pos a1, if_neg a2] at hw; exact hw
    · rw [if_neg a1] at hw; exact hw
theorem yy_ceiling {post : Int32 → Prop} (hR : R ≤ 3) (hN : N ≤ 6) (hsc : ∀ t, t < 6 → zz_nat 4 (xsc t)) (hF : zz_FQ N xre xwc xst xdn xsc yf) (hS : zz_SQ xrs xun xfr xto ysec) (h : post (zz_cY xre (zz_need xsc xrs xun) (zz_free xcp (zz_hb xst xdn xsc xrs xun xfr xto) N) N R)) : wpY_ceiling post (nI mT, nI mS, nI R, nI mQ, nI T, nI N, op, nI M, nI K, yf, ysec, ysv, yqu, yqt, xcp, xlo, ylg, yfi) := by
  show ∃ n : Nat, wY_ceiling_5 post (nI mT) (nI mS) (nI R) (nI mQ) (nI T) (nI N) op (nI M) (nI K) yf ysec ysv yqu yqt xcp xlo ylg yfi n (-6) 0
  refine ⟨_, zz_loop (fun n i a => wY_ceiling_5 post (nI mT) (nI mS) (nI R) (nI mQ) (nI T) (nI N) op (nI M) (nI K) yf ysec ysv yqu yqt xcp xlo ylg yfi n a (nI i)) (fun k a => zz_fold (fun r a => zz_cs xre (zz_need xsc xrs xun (nI r) k) (zz_free xcp (zz_hb xst xdn xsc xrs xun xfr xto) N r) k a) R 0 a) N post ?_ ?_ _ 0 (-6) _ (Nat.zero_add _) (Nat.lt_succ_self _) h⟩
  · intro n a hp
    simp (disch := omega) only [wY_ceiling_5, nI_clamp, zz_in, zz_m4, zz_m6, zz_m14, zz_m16, nI_add, zz_p0, zz_p1, zz_p2, zz_p3, zz_p4, zz_p5, zz_p6, zz_p7, zz_p8, zz_p9, zz_p10, zz_p11, zz_p12, zz_p13, zz_a16, true_and, forall_eq]
    exact br_t (Int32.le_refl _) hp
  · intro n k a hk hw
    simp (disch := omega) only [wY_ceiling_5, nI_clamp, zz_in, zz_m4, zz_m6, zz_m14, zz_m16, nI_add, zz_p0, zz_p1, zz_p2, zz_p3, zz_p4, zz_p5, zz_p6, zz_p7, zz_p8, zz_p9, zz_p10, zz_p11, zz_p12, zz_p13, zz_a16, true_and, forall_eq]
    refine br_f (nI_ge hk (by omega)) ⟨_, zz_loop (fun m i a => wY_ceiling_15 post (wY_ceiling_5 post (nI mT) (nI mS) (nI R) (nI mQ) (nI T) (nI N) op (nI M) (nI K) yf ysec ysv yqu yqt xcp xlo ylg yfi n) (nI k) (nI mT) (nI mS) (nI R) (nI mQ) (nI T) (nI N) op (nI M) (nI K) yf ysec ysv yqu yqt xcp xlo ylg yfi m a (nI i)) (fun r a => zz_cs xre (zz_need xsc xrs xun (nI r) k) (zz_free xcp (zz_hb xst xdn xsc xrs xun xfr xto) N r) k a) R (fun a => wY_ceiling_5 post (nI mT) (nI mS) (nI R) (nI mQ) (nI T) (nI N) op (nI M) (nI K) yf ysec ysv yqu yqt xcp xlo ylg yfi n a (nI (k + 1))) ?_ ?_ _ 0 a _ (Nat.zero_add _) (Nat.lt_succ_self _) hw⟩
    · intro m b hp
      simp (disch := omega) only [wY_ceiling_15, nI_clamp, zz_in, zz_m4, zz_m6, zz_m14, zz_m16, nI_add, zz_p0, zz_p1, zz_p2, zz_p3, zz_p4, zz_p5, zz_p6, zz_p7, zz_p8, zz_p9, zz_p10, zz_p11, zz_p12, zz_p13, zz_a16, true_and, forall_eq]
      exact br_t (Int32.le_refl _) hp
    · intro m r b hr hw2
      have f1 := hF.1
      dsimp only [zz_cs] at hw2
      simp (disch := omega) only [wY_ceiling_15, wY_ceiling_58, f1, nI_clamp, zz_in, zz_m4, zz_m6, zz_m14, zz_m16, nI_add, zz_p0, zz_p1, zz_p2, zz_p3, zz_p4, zz_p5, zz_p6, zz_p7, zz_p8, zz_p9, zz_p10, zz_p11, zz_p12, zz_p13, zz_a16, true_and, forall_eq]
      refine br_f (nI_ge hr (by omega)) (yy_need (by omega) hsc hF hS (yy_freeUnits hr hR hN hsc hF hS (br_c (fun a1 => ?_) (fun a1 => br_c (fun a2 => ?_) (fun a2 => br_c (fun a3 => ?_) (fun a3 => ?_))))))
      · rw [if_pos a1] at hw2; exact hw2
      · rw [if_neg a1, if_pos a2] at hw2; exact hw2
      · rw [if_neg a1, if_neg a2, if_pos a3] at hw2; exact hw2
      · rw [if_neg a1, if_neg a2, if_neg a3] at hw2; exact hw2
theorem yy_share {post : Int64 → Prop} {s : Int32} (h : post (zz_sh s)) : wpY_share post (nI mT, nI mS, nI R, nI mQ, nI T, nI N, op, nI M, nI K, yf, ysec, ysv, yqu, yqt, xcp, xlo, ylg, yfi) s := by
  unfold zz_sh at h
  simp only [wpY_share]
  refine br_c (fun a => ⟨zz_l1 a, ?_⟩) (fun a => ?_)
  · rw [if_pos a] at h; exact h
  · rw [if_neg a] at h; exact h
theorem yy_weight {post : Int64 → Prop} (hM : M ≤ 3) (v0 : ∀ s, s < 3 → ysv (6 * s) = xbu s) (v1 : ∀ s, s < 3 → ysv (6 * s + 1) = xsp s) (h : post (zz_wt xbu xsp M)) : wpY_serverLoad post (nI mT, nI mS, nI R, nI mQ, nI T, nI N, op, nI M, nI K, yf, ysec, ysv, yqu, yqt, xcp, xlo, ylg, yfi) := by
  show ∃ n : Nat, wY_serverLoad_4 post (nI mT) (nI mS) (nI R) (nI mQ) (nI T) (nI N) op (nI M) (nI K) yf ysec ysv yqu yqt xcp xlo ylg yfi n 0 0
  refine ⟨_, zz_loop (fun n i a => wY_serverLoad_4 post (nI mT) (nI mS) (nI R) (nI mQ) (nI T) (nI N) op (nI M) (nI K) yf ysec ysv yqu yqt xcp xlo ylg yfi n a (nI i)) (fun i a => a + zz_shr (xbu i) (xsp i)) M post ?_ ?_ _ 0 0 _ (Nat.zero_add _) (Nat.lt_succ_self _) h⟩
  · intro n a hp
    simp (disch := omega) only [wY_serverLoad_4, nI_clamp, zz_in, zz_m4, zz_m6, zz_m14, zz_m16, nI_add, zz_p0, zz_p1, zz_p2, zz_p3, zz_p4, zz_p5, zz_p6, zz_p7, zz_p8, zz_p9, zz_p10, zz_p11, zz_p12, zz_p13, zz_a16, true_and, forall_eq]
    exact br_t (Int32.le_refl _) hp
  · intro n i a hi hw
    simp (disch := omega) only [wY_serverLoad_4, v0, v1, nI_clamp, zz_in, zz_m4, zz_m6, zz_m14, zz_m16, nI_add, zz_p0, zz_p1, zz_p2, zz_p3, zz_p4, zz_p5, zz_p6, zz_p7, zz_p8, zz_p9, zz_p10, zz_p11, zz_p12, zz_p13, zz_a16, true_and, forall_eq]
    exact br_f (nI_ge hi (by omega)) (yy_share hw)
end
section
/-! the reference's admission condition -/
variable {mT mS R mQ T N M K : Nat} {op : Int32} {xtr xcp xlo xpe xre xwc xus xst xln xdn xdu xnx xco xmi xwo xbl xsc xrs xun xfr xto xbu xsp xle xsd xex xql xqu xqt xfa : Nat → Int32} {yf ysec ysv yqu yqt ylg yfi : Nat → Int32}
/-- some task of the set with D <= d has a section on r -/
def zz_rel (re sc rs : Nat → Int32) (r d : Int32) (m : Nat) : Prop := ∃ t, t < m ∧ ∃ s, s < zc (sc t) ∧ rs (4 * t + s) = r ∧ ¬ d < re t
def zz_cov (re sc rs fr to : Nat → Int32) (d : Int32) (m l : Nat) (x : Int32) : Prop := ∃ s, s < zc (sc l) ∧ ¬ x ≤ fr (4 * l + s) ∧ ¬ to (4 * l + s) ≤ x ∧ zz_rel re sc rs (rs (4 * l + s)) d m
theorem yy_relevant {post : Int32 → Prop} {r d : Int32} {m : Nat} (hm : m ≤ 6) (hsc : ∀ t, t < 6 → zz_nat 4 (xsc t)) (hF : zz_FQ N xre xwc xst xdn xsc yf) (hS : zz_SQ xrs xun xfr xto ysec) (h1 : zz_rel xre xsc xrs r d m → post 1) (h0 : ¬ zz_rel xre xsc xrs r d m → post 0) : wpY_relevant post (nI mT, nI mS, nI R, nI mQ, nI T, nI N, op, nI M, nI K, yf, ysec, ysv, yqu, yqt, xcp, xlo, ylg, yfi) r d (nI m) := by
  obtain ⟨f1, f2, f4, f6, f13⟩ := hF
  obtain ⟨s0, s1, s2, s3⟩ := hS
  show ∃ n : Nat, wY_relevant_3 post r d (nI m) (nI mT) (nI mS) (nI R) (nI mQ) (nI T) (nI N) op (nI M) (nI K) yf ysec ysv yqu yqt xcp xlo ylg yfi n 0
  refine ⟨_, zz_find (fun n i => wY_relevant_3 post r d (nI m) (nI mT) (nI mS) (nI R) (nI mQ) (nI T) (nI N) op (nI M) (nI K) yf ysec ysv yqu yqt xcp xlo ylg yfi n (nI i)) (fun t => ∃ s, s < zc (xsc t) ∧ xrs (4 * t + s) = r ∧ ¬ d < xre t) m (post 1) (post 0) ?_ ?_ _ 0 _ (Nat.zero_add _) (Nat.lt_succ_self _) (fun ⟨j, _, h2, q⟩ => h1 ⟨j, h2, q⟩) (fun h => h0 (fun ⟨s, hs, q⟩ => h s (Nat.zero_le _) hs q))⟩
  · intro n hb
    simp (disch := omega) only [wY_relevant_3, nI_clamp, zz_in, zz_m4, zz_m6, zz_m14, zz_m16, nI_add, zz_p0, zz_p1, zz_p2, zz_p3, zz_p4, zz_p5, zz_p6, zz_p7, zz_p8, zz_p9, zz_p10, zz_p11, zz_p12, zz_p13, zz_a16, true_and, forall_eq]
    exact br_t (Int32.le_refl _) hb
  · intro n t ht ha hw
    have ht6 : t < 6 := by omega
    simp (disch := omega) only [wY_relevant_3, nI_clamp, zz_in, zz_m4, zz_m6, zz_m14, zz_m16, nI_add, zz_p0, zz_p1, zz_p2, zz_p3, zz_p4, zz_p5, zz_p6, zz_p7, zz_p8, zz_p9, zz_p10, zz_p11, zz_p12, zz_p13, zz_a16, true_and, forall_eq]
    refine br_f (nI_ge ht (by omega)) ⟨_, zz_find (fun k i => wY_relevant_12 post (wY_relevant_3 post r d (nI m) (nI mT) (nI mS) (nI R) (nI mQ) (nI T) (nI N) op (nI M) (nI K) yf ysec ysv yqu yqt xcp xlo ylg yfi n) r d (nI m) (nI t) (nI mT) (nI mS) (nI R) (nI mQ) (nI T) (nI N) op (nI M) (nI K) yf ysec ysv yqu yqt xcp xlo ylg yfi k (nI i)) (fun s => xrs (4 * t + s) = r ∧ ¬ d < xre t) (zc (xsc t)) (post 1) (wY_relevant_3 post r d (nI m) (nI mT) (nI mS) (nI R) (nI mQ) (nI T) (nI N) op (nI M) (nI K) yf ysec ysv yqu yqt xcp xlo ylg yfi n (nI (t + 1))) ?_ ?_ _ 0 _ (Nat.zero_add _) (Nat.lt_succ_self _) (fun ⟨j, _, h2, q⟩ => ha ⟨j, h2, q⟩) (fun h => hw (fun ⟨s, hs, q⟩ => h s (Nat.zero_le _) hs q))⟩
    · intro k hb
      simp (disch := omega) only [wY_relevant_12, f13, nI_clamp, zz_in, zz_m4, zz_m6, zz_m14, zz_m16, nI_add, zz_p0, zz_p1, zz_p2, zz_p3, zz_p4, zz_p5, zz_p6, zz_p7, zz_p8, zz_p9, zz_p10, zz_p11, zz_p12, zz_p13, zz_a16, true_and, forall_eq]
      exact br_t (zz_nat_ge (hsc t ht6)) hb
    · intro k i hi ha2 hw2
      have hi4 : i < 4 := Nat.lt_of_lt_of_le hi (hsc t ht6).2
      simp (disch := omega) only [wY_relevant_12, f13, f1, s0, nI_clamp, zz_in, zz_m4, zz_m6, zz_m14, zz_m16, nI_add, zz_p0, zz_p1, zz_p2, zz_p3, zz_p4, zz_p5, zz_p6, zz_p7, zz_p8, zz_p9, zz_p10, zz_p11, zz_p12, zz_p13, zz_a16, true_and, forall_eq]
      exact br_f (zz_nat_lt (hsc t ht6) (by decide) hi) (br_c (fun a1 => br_c (fun a2 => hw2 (fun z => z.2 a2)) (fun a2 => ha2 ⟨a1, a2⟩)) (fun a1 => hw2 (fun z => a1 z.1)))
theorem yy_covered {post : Int32 → Prop} {d x : Int32} {m l : Nat} (hl : l < 6) (hm : m ≤ 6) (hsc : ∀ t, t < 6 → zz_nat 4 (xsc t)) (hF : zz_FQ N xre xwc xst xdn xsc yf) (hS : zz_SQ xrs xun xfr xto ysec) (h1 : zz_cov xre xsc xrs xfr xto d m l x → post 1) (h0 : ¬ zz_cov xre xsc xrs xfr xto d m l x → post 0) : wpY_covered post (nI mT, nI mS, nI R, nI mQ, nI T, nI N, op, nI M, nI K, yf, ysec, ysv, yqu, yqt, xcp, xlo, ylg, yfi) (nI l) x d (nI m) := by
  have hF' := hF
  have hS' := hS
  obtain ⟨f1, f2, f4, f6, f13⟩ := hF
  obtain ⟨s0, s1, s2, s3⟩ := hS
  obtain ⟨c, hc, ec⟩ := zz_nat_ex (hsc l hl)
  unfold zz_cov at h1 h0
  rw [ec, zc_nI (by omega)] at h1 h0
  simp (disch := omega) only [wpY_covered, nI_clamp, zz_in, zz_m4, zz_m6, zz_m14, zz_m16, nI_add, zz_p0, zz_p1, zz_p2, zz_p3, zz_p4, zz_p5, zz_p6, zz_p7, zz_p8, zz_p9, zz_p10, zz_p11, zz_p12, zz_p13, zz_a16, true_and, forall_eq]
  show ∃ n : Nat, wY_covered_6 post (nI l) x d (nI m) (nI mT) (nI mS) (nI R) (nI mQ) (nI T) (nI N) op (nI M) (nI K) yf ysec ysv yqu yqt xcp xlo ylg yfi n (nI (16 * l))
  refine ⟨_, zz_find (fun n i => wY_covered_6 post (nI l) x d (nI m) (nI mT) (nI mS) (nI R) (nI mQ) (nI T) (nI N) op (nI M) (nI K) yf ysec ysv yqu yqt xcp xlo ylg yfi n (nI (16 * l + 4 * i))) (fun s => ¬ x ≤ xfr (4 * l + s) ∧ ¬ xto (4 * l + s) ≤ x ∧ zz_rel xre xsc xrs (xrs (4 * l + s)) d m) c (post 1) (post 0) ?_ ?_ _ 0 _ (Nat.zero_add _) (Nat.lt_succ_self _) (fun ⟨j, _, h2, q⟩ => h1 ⟨j, h2, q⟩) (fun h => h0 (fun ⟨s, hs, q⟩ => h s (Nat.zero_le _) hs q))⟩
  · intro n hb
    simp (disch := omega) only [wY_covered_6, f13, ec, nI_clamp, zz_in, zz_m4, zz_m6, zz_m14, zz_m16, nI_add, zz_p0, zz_p1, zz_p2, zz_p3, zz_p4, zz_p5, zz_p6, zz_p7, zz_p8, zz_p9, zz_p10, zz_p11, zz_p12, zz_p13, zz_a16, true_and, forall_eq]
    exact br_t (Int32.le_refl _) hb
  · intro n i hi ha hw
    try dsimp only at ha hw
    rw [show 16 * l + 4 * (i + 1) = 16 * l + 4 * i + 4 from by omega] at hw
    simp (disch := omega) only [wY_covered_6, f13, ec, s0, s2, s3, nI_clamp, zz_in, zz_m4, zz_m6, zz_m14, zz_m16, nI_add, zz_p0, zz_p1, zz_p2, zz_p3, zz_p4, zz_p5, zz_p6, zz_p7, zz_p8, zz_p9, zz_p10, zz_p11, zz_p12, zz_p13, zz_a16, true_and, forall_eq]
    exact br_f (nI_ge (by omega) (by omega)) (br_c (fun a1 => hw (fun z => z.1 a1)) (fun a1 => br_c (fun a2 => hw (fun z => z.2.1 a2)) (fun a2 => yy_relevant hm hsc hF' hS' (fun z => br_f (by decide) (ha ⟨a1, a2, z⟩)) (fun z => br_t rfl (hw (fun y => z y.2.2))))))
/-- a covered stretch of the given length within 1 .. 29 -/
def zz_win (cv : Nat → Prop) (len : Nat) : Prop := ∃ s, 1 ≤ s ∧ s + len ≤ 30 ∧ ∀ j, j < len → cv (s + j)
theorem yy_b55 {post : Int32 → Prop} {J18 J27 : Int32 → Int32 → Prop} {d : Int32} {m l a : Nat} (hl : l < 6) (hm : m ≤ 6) (ha1 : 1 ≤ a) (hsc : ∀ t, t < 6 → zz_nat 4 (xsc t)) (hF : zz_FQ N xre xwc xst xdn xsc yf) (hS : zz_SQ xrs xun xfr xto ysec) : ∀ (e b n best : Nat), b + e = 30 → e < n → a ≤ b → b - a ≤ best → best ≤ 30 → (∀ j, a ≤ j → j < b → zz_cov xre xsc xrs xfr xto d m l (nI j)) → (∀ best', best ≤ best' → best' ≤ 30 → (best' = best ∨ zz_win (fun x => zz_cov xre xsc xrs xfr xto d m l (nI x)) best') → (∀ len, a + len ≤ 30 → (∀ j, j < len → zz_cov xre xsc xrs xfr xto d m l (nI (a + j))) → len ≤ best') → J27 (nI best') (nI (a + 1))) → wY_blockingIn_55 post J18 J27 (nI m) d (nI l) (nI a) (nI mT) (nI mS) (nI R) (nI mQ) (nI T) (nI N) op (nI M) (nI K) yf ysec ysv yqu yqt xcp xlo ylg yfi n (nI best) (nI b) := by
  intro e
  induction e with
  | zero =>
    intro b n best hb hn hab hbest hb30 hcov K
    obtain ⟨n, rfl⟩ : ∃ m, n = m + 1 := ⟨n - 1, by omega⟩
    have e30 : b = 30 := by omega
    subst e30
    simp (disch := omega) only [wY_blockingIn_55, nI_clamp, zz_in, zz_m4, zz_m6, zz_m14, zz_m16, nI_add, zz_p0, zz_p1, zz_p2, zz_p3, zz_p4, zz_p5, zz_p6, zz_p7, zz_p8, zz_p9, zz_p10, zz_p11, zz_p12, zz_p13, zz_a16, true_and, forall_eq]
    exact br_t (by decide) (K best (Nat.le_refl _) hb30 (Or.inl rfl) (fun len h _ => by omega))
  | succ e ih =>
    intro b n best hb hn hab hbest hb30 hcov K
    obtain ⟨n, rfl⟩ : ∃ m, n = m + 1 := ⟨n - 1, by omega⟩
    simp (disch := omega) only [wY_blockingIn_55, pk_sub, zz_p1, forall_eq]
    refine br_f (nI_ge (b := 30) (by omega) (by decide)) (yy_covered hl hm hsc hF hS (fun z => br_f (by decide) (br_c (fun q => ?_) (fun q => ?_))) (fun z => br_t rfl ?_))
    · rw [nI_leI (by omega) (by omega)] at q
      refine ih (b + 1) n best (by omega) (by omega) (by omega) (by omega) hb30 (fun j h1 h2 => ?_) K
      rcases Nat.lt_or_ge j b with y | y
      · exact hcov j h1 y
      · have : j = b := by omega
        subst this; exact z
    · rw [nI_leI (by omega) (by omega)] at q
      have hc' : ∀ j, a ≤ j → j < b + 1 → zz_cov xre xsc xrs xfr xto d m l (nI j) := fun j h1 h2 => by
        rcases Nat.lt_or_ge j b with y | y
        · exact hcov j h1 y
        · have : j = b := by omega
          subst this; exact z
      refine ih (b + 1) n (b - a + 1) (by omega) (by omega) (by omega) (by omega) (by omega) hc' (fun best' h1 h30 h2 h3 => K best' (by omega) h30 ?_ h3)
      rcases h2 with h2 | h2
      · exact Or.inr ⟨a, ha1, by omega, fun j hj => hc' (a + j) (by omega) (by omega)⟩
      · exact Or.inr h2
    · refine K best (Nat.le_refl _) hb30 (Or.inl rfl) (fun len h1 h2 => ?_)
      rcases Nat.lt_or_ge (b - a) len with y | y
      · have := h2 (b - a) y
        rw [show a + (b - a) = b from by omega] at this
        exact absurd this z
      · omega
theorem yy_b27 {post : Int32 → Prop} {J18 : Int32 → Int32 → Prop} {d : Int32} {m l : Nat} (hl : l < 6) (hm : m ≤ 6) (hd : ¬ xre l ≤ d) (hsc : ∀ t, t < 6 → zz_nat 4 (xsc t)) (hF : zz_FQ N xre xwc xst xdn xsc yf) (hS : zz_SQ xrs xun xfr xto ysec) : ∀ (e a n best : Nat), a + e = 30 → e < n → 1 ≤ a → best ≤ 30 → (∀ best', best ≤ best' → best' ≤ 30 → (best' = best ∨ zz_win (fun x => zz_cov xre xsc xrs xfr xto d m l (nI x)) best') → (∀ s len, a ≤ s → s + len ≤ 30 → (∀ j, j < len → zz_cov xre xsc xrs xfr xto d m l (nI (s + j))) → len ≤ best') → J18 (nI best') (nI (l + 1))) → wY_blockingIn_27 post J18 (nI m) d (nI l) (nI mT) (nI mS) (nI R) (nI mQ) (nI T) (nI N) op (nI M) (nI K) yf ysec ysv yqu yqt xcp xlo ylg yfi n (nI best) (nI a) := by
  intro e
  induction e with
  | zero =>
    intro a n best ha hn h1 hb30 K
    obtain ⟨n, rfl⟩ : ∃ m, n = m + 1 := ⟨n - 1, by omega⟩
    have e30 : a = 30 := by omega
    subst e30
    simp (disch := omega) only [wY_blockingIn_27, nI_clamp, zz_in, zz_m4, zz_m6, zz_m14, zz_m16, nI_add, zz_p0, zz_p1, zz_p2, zz_p3, zz_p4, zz_p5, zz_p6, zz_p7, zz_p8, zz_p9, zz_p10, zz_p11, zz_p12, zz_p13, zz_a16, true_and, forall_eq]
    exact br_t (by decide) (K best (Nat.le_refl _) hb30 (Or.inl rfl) (fun s len h h2 _ => by omega))
  | succ e ih =>
    intro a n best ha hn h1 hb30 K
    obtain ⟨n, rfl⟩ : ∃ m, n = m + 1 := ⟨n - 1, by omega⟩
    have f1 := hF.1
    simp (disch := omega) only [wY_blockingIn_27, f1, nI_clamp, zz_in, zz_m4, zz_m6, zz_m14, zz_m16, nI_add, zz_p0, zz_p1, zz_p2, zz_p3, zz_p4, zz_p5, zz_p6, zz_p7, zz_p8, zz_p9, zz_p10, zz_p11, zz_p12, zz_p13, zz_a16, true_and, forall_eq]
    refine br_f (nI_ge (b := 30) (by omega) (by decide)) (br_f hd ⟨e + 3, ?_⟩)
    refine yy_b55 hl hm h1 hsc hF hS (e + 1) a (e + 3) best (by omega) (by omega) (Nat.le_refl _) (by omega) hb30 (fun j h1 h2 => absurd h1 (by omega)) (fun b1 k1 k30 k2 k3 => ?_)
    refine ih (a + 1) n b1 (by omega) (by omega) (by omega) k30 (fun b2 q1 q30 q2 q3 => K b2 (by omega) q30 ?_ ?_)
    · rcases q2 with q2 | q2
      · subst q2; exact k2
      · exact Or.inr q2
    · intro s len h2 h3 h4
      rcases Nat.lt_or_ge a s with y | y
      · exact q3 s len y h3 h4
      · have : s = a := by omega
        subst this
        exact Nat.le_trans (k3 len h3 h4) q1
theorem yy_blocking {post : Int32 → Prop} {c t : Nat} (ht : t < 6) (hc : c ≤ 6) (hsc : ∀ t, t < 6 → zz_nat 4 (xsc t)) (hF : zz_FQ N xre xwc xst xdn xsc yf) (hS : zz_SQ xrs xun xfr xto ysec) (hL : ∀ l, l < c → ∃ L, L ≤ 30 ∧ zz_str xre xsc xrs xun xfr xto (xre t) c l = nI L ∧ zz_win (fun x => zz_cov xre xsc xrs xfr xto (xre t) c l (nI x)) L ∧ ∀ len, zz_win (fun x => zz_cov xre xsc xrs xfr xto (xre t) c l (nI x)) len → len ≤ L) (h : post (zz_B xre xsc xrs xun xfr xto (xre t) c)) : wpY_blockingIn post (nI mT, nI mS, nI R, nI mQ, nI T, nI N, op, nI M, nI K, yf, ysec, ysv, yqu, yqt, xcp, xlo, ylg, yfi) (nI t) (nI c) := by
  have f1 := hF.1
  simp (disch := omega) only [wpY_blockingIn, f1, nI_clamp, zz_in, zz_m4, zz_m6, zz_m14, zz_m16, nI_add, zz_p0, zz_p1, zz_p2, zz_p3, zz_p4, zz_p5, zz_p6, zz_p7, zz_p8, zz_p9, zz_p10, zz_p11, zz_p12, zz_p13, zz_a16, true_and, forall_eq]
  show ∃ n : Nat, wY_blockingIn_18 post (nI c) (xre t) (nI mT) (nI mS) (nI R) (nI mQ) (nI T) (nI N) op (nI M) (nI K) yf ysec ysv yqu yqt xcp xlo ylg yfi n 0 0
  refine ⟨_, zz_loopI (fun n i a => wY_blockingIn_18 post (nI c) (xre t) (nI mT) (nI mS) (nI R) (nI mQ) (nI T) (nI N) op (nI M) (nI K) yf ysec ysv yqu yqt xcp xlo ylg yfi n a (nI i)) (fun l a => zz_bs xre (xre t) (zz_str xre xsc xrs xun xfr xto (xre t) c l) l a) c post (fun a => ∃ b, b ≤ 30 ∧ a = nI b) ?_ ?_ ?_ _ 0 0 _ (Nat.zero_add _) (Nat.lt_succ_self _) ⟨0, by omega, rfl⟩ h⟩
  · intro l a hl ⟨b, hb, eb⟩
    obtain ⟨L, hL30, eL, _, _⟩ := hL l hl
    dsimp only [zz_bs]
    rw [eL]
    by_cases q : xre l ≤ xre t
    · rw [if_pos q]; exact ⟨b, hb, eb⟩
    · rw [if_neg q]
      by_cases q2 : nI L ≤ a
      · rw [if_pos q2]; exact ⟨b, hb, eb⟩
      · rw [if_neg q2]; exact ⟨L, hL30, rfl⟩
  · intro n a _ hp
    simp (disch := omega) only [wY_blockingIn_18, nI_clamp, zz_in, zz_m4, zz_m6, zz_m14, zz_m16, nI_add, zz_p0, zz_p1, zz_p2, zz_p3, zz_p4, zz_p5, zz_p6, zz_p7, zz_p8, zz_p9, zz_p10, zz_p11, zz_p12, zz_p13, zz_a16, true_and, forall_eq]
    exact br_t (Int32.le_refl _) hp
  · intro n l a hl ⟨b, hb, eb⟩ hw
    obtain ⟨L, hL30, eL, hw1, hw2⟩ := hL l hl
    dsimp only [zz_bs] at hw
    rw [eL] at hw
    subst eb
    simp (disch := omega) only [wY_blockingIn_18, nI_clamp, zz_in, zz_m4, zz_m6, zz_m14, zz_m16, nI_add, zz_p0, zz_p1, zz_p2, zz_p3, zz_p4, zz_p5, zz_p6, zz_p7, zz_p8, zz_p9, zz_p10, zz_p11, zz_p12, zz_p13, zz_a16, true_and, forall_eq]
    refine br_f (nI_ge hl (by omega)) ?_
    by_cases q : xre l ≤ xre t
    · rw [if_pos q] at hw
      refine ⟨1, ?_⟩
      have f1' := f1 l (by omega)
      simp (disch := omega) only [wY_blockingIn_27, f1, nI_clamp, zz_in, zz_m4, zz_m6, zz_m14, zz_m16, nI_add, zz_p0, zz_p1, zz_p2, zz_p3, zz_p4, zz_p5, zz_p6, zz_p7, zz_p8, zz_p9, zz_p10, zz_p11, zz_p12, zz_p13, zz_a16, true_and, forall_eq]
      exact br_f (by decide) (br_t q hw)
    · rw [if_neg q] at hw
      refine ⟨31, yy_b27 (by omega) hc q hsc hF hS 29 1 31 b (by omega) (by omega) (Nat.le_refl _) hb (fun best' h1 h30 h2 h3 => ?_)⟩
      by_cases q2 : L ≤ b
      · rw [if_pos ((nI_leI (by omega) (by omega)).mpr q2)] at hw
        have e : best' = b := by
          rcases h2 with h2 | h2
          · exact h2
          · have := hw2 best' h2; omega
        rw [e]; exact hw
      · rw [if_neg (fun z => q2 ((nI_leI (by omega) (by omega)).mp z))] at hw
        have e : best' = L := by
          obtain ⟨s, g1, g2, g3⟩ := hw1
          have g4 := h3 s L g1 g2 g3
          rcases h2 with h2 | h2
          · omega
          · have := hw2 best' h2; omega
        rw [e]; exact hw
theorem yy_load {post : Int64 → Prop} {c t : Nat} {w : Int64} (ht : t < 6) (hc : c ≤ 6) (hsc : ∀ t, t < 6 → zz_nat 4 (xsc t)) (hF : zz_FQ N xre xwc xst xdn xsc yf) (hS : zz_SQ xrs xun xfr xto ysec) (hL : ∀ l, l < c → ∃ L, L ≤ 30 ∧ zz_str xre xsc xrs xun xfr xto (xre t) c l = nI L ∧ zz_win (fun x => zz_cov xre xsc xrs xfr xto (xre t) c l (nI x)) L ∧ ∀ len, zz_win (fun x => zz_cov xre xsc xrs xfr xto (xre t) c l (nI x)) len → len ≤ L) (h : post (zz_load xre xwc xsc xrs xun xfr xto (xre t) c w)) : wpY_load post (nI mT, nI mS, nI R, nI mQ, nI T, nI N, op, nI M, nI K, yf, ysec, ysv, yqu, yqt, xcp, xlo, ylg, yfi) (nI t) (nI c) w := by
  unfold zz_load zz_lsum at h
  rw [← zz_foldL_add] at h
  have f1 := hF.1
  have f2 := hF.2.1
  simp (disch := omega) only [wpY_load, f1, nI_clamp, zz_in, zz_m4, zz_m6, zz_m14, zz_m16, nI_add, zz_p0, zz_p1, zz_p2, zz_p3, zz_p4, zz_p5, zz_p6, zz_p7, zz_p8, zz_p9, zz_p10, zz_p11, zz_p12, zz_p13, zz_a16, true_and, forall_eq]
  refine yy_blocking ht hc hsc hF hS hL (yy_share ?_)
  show ∃ n : Nat, wY_load_34 post (nI c) (xre t) (nI mT) (nI mS) (nI R) (nI mQ) (nI T) (nI N) op (nI M) (nI K) yf ysec ysv yqu yqt xcp xlo ylg yfi n (w + zz_shr (zz_B xre xsc xrs xun xfr xto (xre t) c) (xre t)) 0
  refine ⟨_, zz_loop (fun n i a => wY_load_34 post (nI c) (xre t) (nI mT) (nI mS) (nI R) (nI mQ) (nI T) (nI N) op (nI M) (nI K) yf ysec ysv yqu yqt xcp xlo ylg yfi n a (nI i)) (fun i a => a + zz_ls xre xwc (xre t) i) c post ?_ ?_ _ 0 _ _ (Nat.zero_add _) (Nat.lt_succ_self _) h⟩
  · intro n a hp
    simp (disch := omega) only [wY_load_34, nI_clamp, zz_in, zz_m4, zz_m6, zz_m14, zz_m16, nI_add, zz_p0, zz_p1, zz_p2, zz_p3, zz_p4, zz_p5, zz_p6, zz_p7, zz_p8, zz_p9, zz_p10, zz_p11, zz_p12, zz_p13, zz_a16, true_and, forall_eq]
    exact br_t (Int32.le_refl _) hp
  · intro n i a hi hw
    dsimp only [zz_ls] at hw
    simp (disch := omega) only [wY_load_34, f1, f2, nI_clamp, zz_in, zz_m4, zz_m6, zz_m14, zz_m16, nI_add, zz_p0, zz_p1, zz_p2, zz_p3, zz_p4, zz_p5, zz_p6, zz_p7, zz_p8, zz_p9, zz_p10, zz_p11, zz_p12, zz_p13, zz_a16, true_and, forall_eq]
    refine br_f (nI_ge hi (by omega)) (br_c (fun a1 => ?_) (fun a1 => yy_share ?_))
    · rw [if_pos a1, Int64.add_zero] at hw; exact hw
    · rw [if_neg a1] at hw; exact hw
theorem yy_cond {post : Int32 → Prop} {c : Nat} {w : Int64} (hc : c ≤ 6) (hsc : ∀ t, t < 6 → zz_nat 4 (xsc t)) (hF : zz_FQ N xre xwc xst xdn xsc yf) (hS : zz_SQ xrs xun xfr xto ysec) (hL : ∀ t, t < 6 → ∀ l, l < c → ∃ L, L ≤ 30 ∧ zz_str xre xsc xrs xun xfr xto (xre t) c l = nI L ∧ zz_win (fun x => zz_cov xre xsc xrs xfr xto (xre t) c l (nI x)) L ∧ ∀ len, zz_win (fun x => zz_cov xre xsc xrs xfr xto (xre t) c l (nI x)) len → len ≤ L) (h1 : w ≤ 2329089562800 → (∀ t, t < c → zz_load xre xwc xsc xrs xun xfr xto (xre t) c w ≤ 2329089562800) → post 1) (h0 : (¬ w ≤ 2329089562800 ∨ ∃ t, t < c ∧ ¬ zz_load xre xwc xsc xrs xun xfr xto (xre t) c w ≤ 2329089562800) → post 0) : wpY_admissible post (nI mT, nI mS, nI R, nI mQ, nI T, nI N, op, nI M, nI K, yf, ysec, ysv, yqu, yqt, xcp, xlo, ylg, yfi) (nI c) w := by
  simp only [wpY_admissible]
  refine br_c (fun hw => ?_) (fun hw => h0 (Or.inl hw))
  show ∃ n : Nat, wY_admissible_13 post (nI c) w (nI mT) (nI mS) (nI R) (nI mQ) (nI T) (nI N) op (nI M) (nI K) yf ysec ysv yqu yqt xcp xlo ylg yfi n 0
  refine ⟨_, zz_find (fun n i => wY_admissible_13 post (nI c) w (nI mT) (nI mS) (nI R) (nI mQ) (nI T) (nI N) op (nI M) (nI K) yf ysec ysv yqu yqt xcp xlo ylg yfi n (nI i)) (fun t => ¬ zz_load xre xwc xsc xrs xun xfr xto (xre t) c w ≤ 2329089562800) c (post 0) (post 1) ?_ ?_ _ 0 _ (Nat.zero_add _) (Nat.lt_succ_self _) (fun ⟨j, _, h2, q⟩ => h0 (Or.inr ⟨j, h2, q⟩)) (fun h => h1 hw (fun s hs => Decidable.not_not.mp (h s (Nat.zero_le _) hs)))⟩
  · intro n hb
    simp (disch := omega) only [wY_admissible_13, nI_clamp, zz_in, zz_m4, zz_m6, zz_m14, zz_m16, nI_add, zz_p0, zz_p1, zz_p2, zz_p3, zz_p4, zz_p5, zz_p6, zz_p7, zz_p8, zz_p9, zz_p10, zz_p11, zz_p12, zz_p13, zz_a16, true_and, forall_eq]
    exact br_t (Int32.le_refl _) hb
  · intro n i hi ha hw2
    simp (disch := omega) only [wY_admissible_13, nI_clamp, zz_in, zz_m4, zz_m6, zz_m14, zz_m16, nI_add, zz_p0, zz_p1, zz_p2, zz_p3, zz_p4, zz_p5, zz_p6, zz_p7, zz_p8, zz_p9, zz_p10, zz_p11, zz_p12, zz_p13, zz_a16, true_and, forall_eq]
    exact br_f (nI_ge hi (by omega)) (yy_load (by omega) hc hsc hF hS (hL i (by omega)) (br_c (fun z => hw2 (fun nz => nz z)) (fun z => ha z)))
end
section
/-! pure laws: need, reach, covered bits, longest run -/
theorem zz_need_law {sc rs un : Nat → Int32} {r : Int32} {t : Nat} (hu : ∀ s, s < zc (sc t) → ¬ un (4 * t + s) ≤ 0) : ¬ zz_need sc rs un r t ≤ 0 ↔ ∃ s, s < zc (sc t) ∧ rs (4 * t + s) = r := by
  unfold zz_need
  refine zz_fold_inv (g := fun i a => zz_ns rs un r (4 * t + i) a) (fun j a => ¬ a ≤ 0 ↔ ∃ s, s < j ∧ rs (4 * t + s) = r) (zc (sc t)) ?_ (zc (sc t)) 0 0 (Nat.zero_add _) ?_
  · intro j b hj hb
    have hu' := hu j hj
    dsimp only [zz_ns]
    by_cases e : rs (4 * t + j) = r
    · rw [if_pos e]
      have hex : ∃ s, s < j + 1 ∧ rs (4 * t + s) = r := ⟨j, Nat.lt_succ_self j, e⟩
      by_cases q : un (4 * t + j) ≤ b
      · rw [if_pos q]
        refine ⟨fun _ => hex, fun _ z => hu' (Int32.le_trans q z)⟩
      · rw [if_neg q]
        exact ⟨fun _ => hex, fun _ => hu'⟩
    · rw [if_neg e]
      refine hb.trans ⟨fun ⟨s, h1, h2⟩ => ⟨s, by omega, h2⟩, fun ⟨s, h1, h2⟩ => ⟨s, ?_, h2⟩⟩
      rcases Nat.lt_or_ge s j with z | z
      · exact z
      · have : s = j := by omega
        subst this
        exact absurd h2 e
  · exact ⟨fun z => absurd (by decide) z, fun ⟨s, h, _⟩ => absurd h (by omega)⟩
theorem zz_reach_law {re nd : Nat → Int32} {rel : Int32} {c : Nat} (hr : rel < 31) : ¬ rel < zz_reach re nd c ↔ ∃ k, k < c ∧ ¬ nd k ≤ 0 ∧ ¬ rel < re k := by
  unfold zz_reach
  refine zz_fold_inv (g := fun k a => zz_rs re (nd k) k a) (fun j a => ¬ rel < a ↔ ∃ k, k < j ∧ ¬ nd k ≤ 0 ∧ ¬ rel < re k) c ?_ c 0 31 (Nat.zero_add _) ?_
  · intro j b hj hb
    dsimp only [zz_rs]
    by_cases e : nd j ≤ 0
    · rw [if_pos e]
      refine hb.trans ⟨fun ⟨s, h1, h2⟩ => ⟨s, by omega, h2⟩, fun ⟨s, h1, h2, h3⟩ => ⟨s, ?_, h2, h3⟩⟩
      rcases Nat.lt_or_ge s j with z | z
      · exact z
      · have : s = j := by omega
        subst this
        exact absurd e h2
    · rw [if_neg e]
      by_cases q : b ≤ re j
      · rw [if_pos q]
        refine ⟨fun z => ?_, fun ⟨s, h1, h2, h3⟩ => ?_⟩
        · obtain ⟨s, h1, h2⟩ := hb.mp z
          exact ⟨s, by omega, h2⟩
        · rcases Nat.lt_or_ge s j with z | z
          · exact hb.mpr ⟨s, z, h2, h3⟩
          · have : s = j := by omega
            subst this
            rw [Int32.not_lt] at h3 ⊢
            exact Int32.le_trans q h3
      · rw [if_neg q]
        refine ⟨fun z => ⟨j, Nat.lt_succ_self j, e, z⟩, fun ⟨s, h1, h2, h3⟩ => ?_⟩
        rcases Nat.lt_or_ge s j with z | z
        · have := hb.mpr ⟨s, z, h2, h3⟩
          rw [Int32.lt_iff_toInt_lt] at this ⊢
          rw [Int32.le_iff_toInt_le] at q
          omega
        · have : s = j := by omega
          subst this
          exact h3
  · exact ⟨fun z => absurd hr z, fun ⟨s, h, _⟩ => absurd h (by omega)⟩
theorem zz_lowbits : ∀ b, b < 32 → ∀ i, i < 32 → bt (((1 : Int32) <<< (nI b &&& 31)) - 1) i = decide (i < b) := by decide +kernel
theorem zz_ins_bt {a b i : Nat} (ha : a ≤ 30) (hb : b ≤ 30) (hi : i < 32) : bt (zz_ins (nI a) (nI b)) i = true ↔ a < i ∧ i < b := by
  unfold zz_ins
  rw [b_and, b_xor, b_m1 i hi, nI_1, zz_lowbits b (by omega) i hi, zz_lowbits (a + 1) (by omega) i hi]
  simp
  omega
theorem zz_mask_law {re sc rs un fr to : Nat → Int32} {rel : Int32} {c t i : Nat} (hr : rel < 31) (ht : t < 6) (hi : i < 32) (hsc : zz_nat 4 (sc t)) (hfr : ∀ q, q < 24 → zz_nat 30 (fr q)) (hto : ∀ q, q < 24 → zz_nat 30 (to q)) (hu : ∀ t, t < c → ∀ s, s < zc (sc t) → ¬ un (4 * t + s) ≤ 0) : bt (zz_mask re sc rs un fr to rel c t) i = true ↔ zz_cov re sc rs fr to rel c t (nI i) := by
  have key : ∀ r : Int32, ¬ rel < zz_reach re (zz_need sc rs un r) c ↔ zz_rel re sc rs r rel c := by
    intro r
    rw [zz_reach_law hr]
    unfold zz_rel
    refine ⟨fun ⟨k, h1, h2, h3⟩ => ?_, fun ⟨k, h1, s, h2, h3, h4⟩ => ⟨k, h1, (zz_need_law (hu k h1)).mpr ⟨s, h2, h3⟩, h4⟩⟩
    obtain ⟨s, h4, h5⟩ := (zz_need_law (hu k h1)).mp h2
    exact ⟨k, h1, s, h4, h5, h3⟩
  unfold zz_mask zz_cov
  refine zz_fold_inv (g := fun i a => zz_ms rel (zz_reach re (zz_need sc rs un (rs (4 * t + i))) c) (fr (4 * t + i)) (to (4 * t + i)) a) (fun j a => bt a i = true ↔ ∃ s, s < j ∧ ¬ nI i ≤ fr (4 * t + s) ∧ ¬ to (4 * t + s) ≤ nI i ∧ zz_rel re sc rs (rs (4 * t + s)) rel c) (zc (sc t)) ?_ (zc (sc t)) 0 0 (Nat.zero_add _) ?_
  · intro j b hj hb
    have hj4 : j < 4 := Nat.lt_of_lt_of_le hj hsc.2
    obtain ⟨x, hx, ex⟩ := zz_nat_ex (hfr (4 * t + j) (by omega))
    obtain ⟨y, hy, ey⟩ := zz_nat_ex (hto (4 * t + j) (by omega))
    have hk := key (rs (4 * t + j))
    dsimp only [zz_ms]
    by_cases e : rel < zz_reach re (zz_need sc rs un (rs (4 * t + j))) c
    · rw [if_pos e]
      refine hb.trans ⟨fun ⟨s, h1, h2⟩ => ⟨s, by omega, h2⟩, fun ⟨s, h1, h2, h3, h4⟩ => ⟨s, ?_, h2, h3, h4⟩⟩
      rcases Nat.lt_or_ge s j with z | z
      · exact z
      · have : s = j := by omega
        subst this
        exact absurd e (hk.mpr h4)
    · rw [if_neg e, b_or, Bool.or_eq_true, hb, ex, ey, zz_ins_bt hx hy hi]
      have g1 : (¬ nI i ≤ nI x) ↔ x < i := by rw [nI_leI (by omega) (by omega)]; omega
      have g2 : (¬ nI y ≤ nI i) ↔ i < y := by rw [nI_leI (by omega) (by omega)]; omega
      refine ⟨fun h => ?_, fun ⟨s, h1, h2, h3, h4⟩ => ?_⟩
      · rcases h with ⟨s, h1, h2⟩ | ⟨h1, h2⟩
        · exact ⟨s, by omega, h2⟩
        · exact ⟨j, Nat.lt_succ_self j, by rw [ex]; exact g1.mpr h1, by rw [ey]; exact g2.mpr h2, hk.mp e⟩
      · rcases Nat.lt_or_ge s j with z | z
        · exact Or.inl ⟨s, z, h2, h3, h4⟩
        · have : s = j := by omega
          subst this
          rw [ex] at h2
          rw [ey] at h3
          exact Or.inr ⟨g1.mp h2, g2.mp h3⟩
  · rw [b_0]
    exact ⟨fun z => absurd z (by decide), fun ⟨s, h, _⟩ => absurd h (by omega)⟩
theorem zz_lr_law {cv : Nat → Prop} (hcv : ∀ i, i < 32 → cv i → 1 ≤ i ∧ i < 30) : ∀ (d k : Nat) (x : Int32), k + d = 32 → (∀ i, i < 32 → (bt x i = true ↔ (k ≤ i ∧ ∀ j, j ≤ k → cv (i - j)))) → zz_win cv k → ∃ L, L ≤ 30 ∧ zz_lr d x (nI k) = nI L ∧ zz_win cv L ∧ ∀ len, zz_win cv len → len ≤ L := by
  intro d
  induction d with
  | zero =>
    intro k x hk _ hw
    obtain ⟨s, h1, h2, _⟩ := hw
    omega
  | succ d ih =>
    intro k x hk hb hw
    have hk30 : k ≤ 30 := by obtain ⟨s, h1, h2, _⟩ := hw; omega
    unfold zz_lr
    by_cases z : x = 0
    · rw [if_pos z]
      refine ⟨k, hk30, rfl, hw, fun len hl => ?_⟩
      rcases Nat.lt_or_ge k len with y | y
      · obtain ⟨s, h1, h2, h3⟩ := hl
        have := (hb (s + k) (by omega)).mpr ⟨by omega, fun j hj => by
          have := h3 (k - j) (by omega)
          rw [show s + k - j = s + (k - j) from by omega]
          exact this⟩
        rw [z, b_0] at this
        exact absurd this (by decide)
      · exact y
    · rw [if_neg z]
      have hex : ∃ i, i < 32 ∧ bt x i = true := by
        refine Classical.byContradiction (fun hn => z (b_ext (fun i hi => ?_)))
        rw [b_0]
        cases hbi : bt x i
        · rfl
        · exact absurd ⟨i, hi, hbi⟩ hn
      obtain ⟨i, hi, hbi⟩ := hex
      obtain ⟨h1, h2⟩ := (hb i hi).mp hbi
      have ci : cv i := h2 0 (Nat.zero_le _)
      have cs : cv (i - k) := h2 k (Nat.le_refl _)
      have b1 := hcv i hi ci
      have b2 := hcv (i - k) (by omega) cs
      rw [nI_1]
      refine ih (k + 1) _ (by omega) (fun p hp => ?_) ⟨i - k, b2.1, by omega, fun j hj => ?_⟩
      · have es : bt (x <<< ((1 : Int32) &&& 31)) p = (decide (1 ≤ p) && bt x (p - 1)) := b_shl 1 (by decide) x hp
        rw [b_and, es, Bool.and_eq_true, Bool.and_eq_true, hb p hp, hb (p - 1) (by omega)]
        simp only [decide_eq_true_eq]
        refine ⟨fun ⟨⟨q1, q2⟩, q3, q4, q5⟩ => ⟨by omega, fun j hj => ?_⟩, fun ⟨q1, q2⟩ => ⟨⟨by omega, fun j hj => q2 j (by omega)⟩, by omega, by omega, fun j hj => ?_⟩⟩
        · rcases Nat.lt_or_ge k j with y | y
          · have := q5 k (Nat.le_refl _)
            rw [show p - j = p - 1 - k from by omega]
            exact this
          · exact q2 j y
        · have := q2 (j + 1) (by omega)
          rw [show p - 1 - j = p - (j + 1) from by omega]
          exact this
      · have := h2 (k - j) (by omega)
        rw [show i - k + j = i - (k - j) from by omega]
        exact this
theorem zz_hL {re sc rs un fr to : Nat → Int32} {c : Nat} (hc : c ≤ 6) (hsc : ∀ t, t < 6 → zz_nat 4 (sc t)) (hre : ∀ t, t < 6 → zz_nat 30 (re t)) (hfr : ∀ q, q < 24 → zz_nat 30 (fr q)) (hto : ∀ q, q < 24 → zz_nat 30 (to q)) (hu : ∀ t, t < 6 → ∀ s, s < zc (sc t) → ¬ un (4 * t + s) ≤ 0) : ∀ t, t < 6 → ∀ l, l < c → ∃ L, L ≤ 30 ∧ zz_str re sc rs un fr to (re t) c l = nI L ∧ zz_win (fun x => zz_cov re sc rs fr to (re t) c l (nI x)) L ∧ ∀ len, zz_win (fun x => zz_cov re sc rs fr to (re t) c l (nI x)) len → len ≤ L := by
  intro t ht l hl
  have hr : re t < 31 := by
    obtain ⟨x, hx, ex⟩ := zz_nat_ex (hre t ht)
    rw [ex]
    exact nI_lt (b := 31) (by omega) (by decide)
  have hl6 : l < 6 := by omega
  refine zz_lr_law (cv := fun x => zz_cov re sc rs fr to (re t) c l (nI x)) ?_ 32 0 _ rfl ?_ ⟨1, by omega, by omega, fun j hj => absurd hj (by omega)⟩
  · intro i hi hcv
    obtain ⟨s, h1, h2, h3, _⟩ := hcv
    have hs4 : s < 4 := Nat.lt_of_lt_of_le h1 (hsc l hl6).2
    obtain ⟨x, hx, ex⟩ := zz_nat_ex (hfr (4 * l + s) (by omega))
    obtain ⟨y, hy, ey⟩ := zz_nat_ex (hto (4 * l + s) (by omega))
    rw [ex, nI_leI (by omega) (by omega)] at h2
    rw [ey, nI_leI (by omega) (by omega)] at h3
    omega
  · intro i hi
    rw [zz_mask_law hr hl6 hi (hsc l hl6) hfr hto (fun t ht => hu t (by omega))]
    refine ⟨fun h => ⟨Nat.zero_le _, fun j hj => ?_⟩, fun h => h.2 0 (Nat.le_refl _)⟩
    have : j = 0 := by omega
    subst this
    exact h
end
section
/-! pure laws: the ceiling in either order; the sums of a tick -/
def zz_Cz (re : Nat → Int32) (S : Nat → Prop) (a : Int32) : Prop := (a = -6 ∧ ∀ k, ¬ S k) ∨ (a ≠ -6 ∧ (∃ k, S k ∧ re k = a) ∧ ∀ k, S k → a ≤ re k)
theorem zz_Cz_congr {re : Nat → Int32} {S S' : Nat → Prop} {a : Int32} (h : ∀ k, S k ↔ S' k) (hc : zz_Cz re S a) : zz_Cz re S' a := by
  rcases hc with ⟨h1, h2⟩ | ⟨h1, ⟨k, h2, h3⟩, h4⟩
  · exact Or.inl ⟨h1, fun k z => h2 k ((h k).mpr z)⟩
  · exact Or.inr ⟨h1, ⟨k, (h k).mp h2, h3⟩, fun k z => h4 k ((h k).mpr z)⟩
theorem zz_Cz_uniq {re : Nat → Int32} {S : Nat → Prop} {a b : Int32} (ha : zz_Cz re S a) (hb : zz_Cz re S b) : a = b := by
  rcases ha with ⟨h1, h2⟩ | ⟨h1, ⟨k, h2, h3⟩, h4⟩
  · rcases hb with ⟨g1, g2⟩ | ⟨g1, ⟨k, g2, g3⟩, g4⟩
    · rw [h1, g1]
    · exact absurd g2 (h2 k)
  · rcases hb with ⟨g1, g2⟩ | ⟨g1, ⟨j, g2, g3⟩, g4⟩
    · exact absurd h2 (g2 k)
    · have p := h4 j g2
      have q := g4 k h2
      rw [g3] at p
      rw [h3] at q
      exact Int32.le_antisymm p q
theorem zz_Cz_step {re : Nat → Int32} {S : Nat → Prop} {a nd fe : Int32} {k : Nat} (hk : re k ≠ -6) (hc : zz_Cz re S a) : zz_Cz re (fun j => S j ∨ (j = k ∧ ¬ nd ≤ fe)) (zz_cs re nd fe k a) := by
  unfold zz_cs
  by_cases h : nd ≤ fe
  · rw [if_pos h]
    exact zz_Cz_congr (fun j => ⟨fun z => Or.inl z, fun z => z.elim id (fun z => absurd h z.2)⟩) hc
  · rw [if_neg h]
    rcases hc with ⟨h1, h2⟩ | ⟨h1, ⟨j, h2, h3⟩, h4⟩
    · rw [if_pos h1]
      refine Or.inr ⟨hk, ⟨k, Or.inr ⟨rfl, h⟩, rfl⟩, fun j hj => ?_⟩
      rcases hj with z | z
      · exact absurd z (h2 j)
      · rw [z.1]; exact Int32.le_refl _
    · rw [if_neg h1]
      by_cases q : a ≤ re k
      · rw [if_pos q]
        refine Or.inr ⟨h1, ⟨j, Or.inl h2, h3⟩, fun i hi => ?_⟩
        rcases hi with z | z
        · exact h4 i z
        · rw [z.1]; exact q
      · rw [if_neg q]
        refine Or.inr ⟨hk, ⟨k, Or.inr ⟨rfl, h⟩, rfl⟩, fun i hi => ?_⟩
        rcases hi with z | z
        · have := h4 i z
          rw [Int32.le_iff_toInt_le] at this q ⊢
          omega
        · rw [z.1]; exact Int32.le_refl _
theorem zz_ceil_eq {re : Nat → Int32} {nd : Int32 → Nat → Int32} {fe : Nat → Int32} {N R : Nat} (hre : ∀ k, k < N → re k ≠ -6) : zz_cX re nd fe N R = zz_cY re nd fe N R := by
  have hX : zz_Cz re (fun k => k < N ∧ ∃ r, r < R ∧ ¬ nd (nI r) k ≤ fe r) (zz_cX re nd fe N R) := by
    unfold zz_cX
    refine zz_fold_inv (g := fun r a => zz_fold (fun k a => zz_cs re (nd (nI r) k) (fe r) k a) N 0 a) (fun j a => zz_Cz re (fun k => k < N ∧ ∃ r, r < j ∧ ¬ nd (nI r) k ≤ fe r) a) R ?_ R 0 (-6) (Nat.zero_add _) (Or.inl ⟨rfl, fun k h => by obtain ⟨_, r, hr, _⟩ := h; omega⟩)
    intro r a hr ha
    refine zz_Cz_congr ?_ (zz_fold_inv (g := fun k a => zz_cs re (nd (nI r) k) (fe r) k a) (fun j a => zz_Cz re (fun k => (k < N ∧ ∃ r', r' < r ∧ ¬ nd (nI r') k ≤ fe r') ∨ (k < j ∧ ¬ nd (nI r) k ≤ fe r)) a) N ?_ N 0 a (Nat.zero_add _) (zz_Cz_congr (fun k => ⟨fun z => Or.inl z, fun z => z.elim id (fun z => absurd z.1 (by omega))⟩) ha))
    · intro k
      refine ⟨fun z => ?_, fun ⟨h1, r', h2, h3⟩ => ?_⟩
      · rcases z with ⟨h1, r', h2, h3⟩ | ⟨h1, h2⟩
        · exact ⟨h1, r', by omega, h3⟩
        · exact ⟨h1, r, by omega, h2⟩
      · rcases Nat.lt_or_ge r' r with z | z
        · exact Or.inl ⟨h1, r', z, h3⟩
        · have : r' = r := by omega
          subst this
          exact Or.inr ⟨h1, h3⟩
    · intro k b hk hb
      refine zz_Cz_congr ?_ (zz_Cz_step (nd := nd (nI r) k) (fe := fe r) (hre k hk) hb)
      intro j
      refine ⟨fun z => ?_, fun z => ?_⟩
      · rcases z with (z | z) | z
        · exact Or.inl z
        · exact Or.inr ⟨by omega, z.2⟩
        · obtain ⟨z1, z2⟩ := z
          subst z1
          exact Or.inr ⟨by omega, z2⟩
      · rcases z with z | ⟨z1, z2⟩
        · exact Or.inl (Or.inl z)
        · rcases Nat.lt_or_ge j k with y | y
          · exact Or.inl (Or.inr ⟨y, z2⟩)
          · have : j = k := by omega
            subst this
            exact Or.inr ⟨rfl, z2⟩
  have hY : zz_Cz re (fun k => k < N ∧ ∃ r, r < R ∧ ¬ nd (nI r) k ≤ fe r) (zz_cY re nd fe N R) := by
    unfold zz_cY
    refine zz_fold_inv (g := fun k a => zz_fold (fun r a => zz_cs re (nd (nI r) k) (fe r) k a) R 0 a) (fun j a => zz_Cz re (fun k => k < j ∧ ∃ r, r < R ∧ ¬ nd (nI r) k ≤ fe r) a) N ?_ N 0 (-6) (Nat.zero_add _) (Or.inl ⟨rfl, fun k h => by have := h.1; omega⟩)
    intro j a hj ha
    refine zz_Cz_congr ?_ (zz_fold_inv (g := fun r a => zz_cs re (nd (nI r) j) (fe r) j a) (fun i a => zz_Cz re (fun k => (k < j ∧ ∃ r, r < R ∧ ¬ nd (nI r) k ≤ fe r) ∨ (k = j ∧ ∃ r, r < i ∧ ¬ nd (nI r) j ≤ fe r)) a) R ?_ R 0 a (Nat.zero_add _) (zz_Cz_congr (fun k => ⟨fun z => Or.inl z, fun z => z.elim id (fun z => by obtain ⟨_, r, hr, _⟩ := z; omega)⟩) ha))
    · intro k
      refine ⟨fun z => ?_, fun ⟨h1, h2⟩ => ?_⟩
      · rcases z with ⟨h1, h2⟩ | ⟨h1, h2⟩
        · exact ⟨by omega, h2⟩
        · subst h1
          exact ⟨by omega, h2⟩
      · rcases Nat.lt_or_ge k j with z | z
        · exact Or.inl ⟨z, h2⟩
        · have : k = j := by omega
          subst this
          exact Or.inr ⟨rfl, h2⟩
    · intro r b hr hb
      refine zz_Cz_congr ?_ (zz_Cz_step (nd := nd (nI r) j) (fe := fe r) (hre j hj) hb)
      intro k
      refine ⟨fun z => ?_, fun z => ?_⟩
      · rcases z with (z | ⟨z1, r', z2, z3⟩) | ⟨z1, z2⟩
        · exact Or.inl z
        · exact Or.inr ⟨z1, r', by omega, z3⟩
        · exact Or.inr ⟨z1, r, by omega, z2⟩
      · rcases z with z | ⟨z1, r', z2, z3⟩
        · exact Or.inl (Or.inl z)
        · rcases Nat.lt_or_ge r' r with y | y
          · exact Or.inl (Or.inr ⟨z1, r', y, z3⟩)
          · have : r' = r := by omega
            subst this
            exact Or.inr ⟨z1, z3⟩
  exact zz_Cz_uniq hX hY
theorem zz_sum_split {h : Nat → Int32} {u : Int32} {t : Nat} : ∀ d i : Nat, i ≤ t → t < i + d → zz_sum (fun k => if k = t then u else h k) d i = zz_sum (fun k => if k = t then 0 else h k) d i + u := by
  intro d
  induction d with
  | zero => intro i h1 h2; omega
  | succ d ih =>
    intro i h1 h2
    rw [zz_sum_succ, zz_sum_succ]
    by_cases e : i = t
    · subst e
      rw [if_pos rfl, if_pos rfl]
      have e2 : zz_sum (fun k => if k = i then u else h k) d (i + 1) = zz_sum (fun k => if k = i then 0 else h k) d (i + 1) :=
        zz_sum_congr d (i + 1) (fun j g1 g2 => by rw [if_neg (by omega), if_neg (by omega)])
      rw [e2, Int32.zero_add, Int32.add_comm]
    · rw [if_neg e, if_neg e, ih (i + 1) (by omega) (by omega), Int32.add_assoc]
end
section
/-! the relation, piece by piece -/
variable {mT mS R mQ T N M K : Nat} {op : Int32} {xtr xcp xlo xpe xre xwc xus xst xln xdn xdu xnx xco xmi xwo xbl xsc xrs xun xfr xto xbu xsp xle xsd xex xql xqu xqt xfa : Nat → Int32} {yf ysec ysv yqu yqt ylg yfi : Nat → Int32}
/-- the table of tasks: the columns; a draft's row; counts beyond the tasks; states -/
def zz_TF (N : Nat) (op : Int32) (xpe xre xwc xus xst xln xdn xdu xnx xco xmi xwo xbl xsc yf : Nat → Int32) : Prop :=
  zz_col 14 6 yf 0 xpe ∧ zz_col 14 6 yf 1 xre ∧ zz_col 14 6 yf 2 xwc ∧ zz_col 14 6 yf 3 xus ∧ zz_col 14 N yf 4 xst ∧ zz_col 14 6 yf 5 xln ∧ zz_col 14 6 yf 6 xdn ∧ zz_col 14 6 yf 7 xdu ∧ zz_col 14 N yf 8 xnx ∧ zz_col 14 6 yf 9 xco ∧ zz_col 14 6 yf 10 xmi ∧ zz_col 14 6 yf 11 xwo ∧ zz_col 14 6 yf 12 xbl ∧ zz_col 14 6 yf 13 xsc ∧ (¬ op = 0 → yf (14 * N + 4) = 3 ∧ yf (14 * N + 8) = -6) ∧ (∀ t, N ≤ t → t < 6 → xco t = 0 ∧ xmi t = 0 ∧ xwo t = 0 ∧ xbl t = 0) ∧ (∀ t, t < N → xst t = 0 ∨ xst t = 1 ∨ xst t = 2)
theorem tf_0 (h : zz_TF N op xpe xre xwc xus xst xln xdn xdu xnx xco xmi xwo xbl xsc yf) : ∀ t, t < 6 → yf (14 * t) = xpe t := h.1
theorem tf_1 (h : zz_TF N op xpe xre xwc xus xst xln xdn xdu xnx xco xmi xwo xbl xsc yf) : ∀ t, t < 6 → yf (14 * t + 1) = xre t := h.2.1
theorem tf_2 (h : zz_TF N op xpe xre xwc xus xst xln xdn xdu xnx xco xmi xwo xbl xsc yf) : ∀ t, t < 6 → yf (14 * t + 2) = xwc t := h.2.2.1
theorem tf_3 (h : zz_TF N op xpe xre xwc xus xst xln xdn xdu xnx xco xmi xwo xbl xsc yf) : ∀ t, t < 6 → yf (14 * t + 3) = xus t := h.2.2.2.1
theorem tf_4 (h : zz_TF N op xpe xre xwc xus xst xln xdn xdu xnx xco xmi xwo xbl xsc yf) : ∀ t, t < N → yf (14 * t + 4) = xst t := h.2.2.2.2.1
theorem tf_5 (h : zz_TF N op xpe xre xwc xus xst xln xdn xdu xnx xco xmi xwo xbl xsc yf) : ∀ t, t < 6 → yf (14 * t + 5) = xln t := h.2.2.2.2.2.1
theorem tf_6 (h : zz_TF N op xpe xre xwc xus xst xln xdn xdu xnx xco xmi xwo xbl xsc yf) : ∀ t, t < 6 → yf (14 * t + 6) = xdn t := h.2.2.2.2.2.2.1
theorem tf_7 (h : zz_TF N op xpe xre xwc xus xst xln xdn xdu xnx xco xmi xwo xbl xsc yf) : ∀ t, t < 6 → yf (14 * t + 7) = xdu t := h.2.2.2.2.2.2.2.1
theorem tf_8 (h : zz_TF N op xpe xre xwc xus xst xln xdn xdu xnx xco xmi xwo xbl xsc yf) : ∀ t, t < N → yf (14 * t + 8) = xnx t := h.2.2.2.2.2.2.2.2.1
theorem tf_9 (h : zz_TF N op xpe xre xwc xus xst xln xdn xdu xnx xco xmi xwo xbl xsc yf) : ∀ t, t < 6 → yf (14 * t + 9) = xco t := h.2.2.2.2.2.2.2.2.2.1
theorem tf_10 (h : zz_TF N op xpe xre xwc xus xst xln xdn xdu xnx xco xmi xwo xbl xsc yf) : ∀ t, t < 6 → yf (14 * t + 10) = xmi t := h.2.2.2.2.2.2.2.2.2.2.1
theorem tf_11 (h : zz_TF N op xpe xre xwc xus xst xln xdn xdu xnx xco xmi xwo xbl xsc yf) : ∀ t, t < 6 → yf (14 * t + 11) = xwo t := h.2.2.2.2.2.2.2.2.2.2.2.1
theorem tf_12 (h : zz_TF N op xpe xre xwc xus xst xln xdn xdu xnx xco xmi xwo xbl xsc yf) : ∀ t, t < 6 → yf (14 * t + 12) = xbl t := h.2.2.2.2.2.2.2.2.2.2.2.2.1
theorem tf_13 (h : zz_TF N op xpe xre xwc xus xst xln xdn xdu xnx xco xmi xwo xbl xsc yf) : ∀ t, t < 6 → yf (14 * t + 13) = xsc t := h.2.2.2.2.2.2.2.2.2.2.2.2.2.1
theorem tf_dr (h : zz_TF N op xpe xre xwc xus xst xln xdn xdu xnx xco xmi xwo xbl xsc yf) : ¬ op = 0 → yf (14 * N + 4) = 3 ∧ yf (14 * N + 8) = -6 := h.2.2.2.2.2.2.2.2.2.2.2.2.2.2.1
theorem tf_ct (h : zz_TF N op xpe xre xwc xus xst xln xdn xdu xnx xco xmi xwo xbl xsc yf) : ∀ t, N ≤ t → t < 6 → xco t = 0 ∧ xmi t = 0 ∧ xwo t = 0 ∧ xbl t = 0 := h.2.2.2.2.2.2.2.2.2.2.2.2.2.2.2.1
theorem tf_st (h : zz_TF N op xpe xre xwc xus xst xln xdn xdu xnx xco xmi xwo xbl xsc yf) : ∀ t, t < N → xst t = 0 ∨ xst t = 1 ∨ xst t = 2 := h.2.2.2.2.2.2.2.2.2.2.2.2.2.2.2.2
theorem tf_fq (h : zz_TF N op xpe xre xwc xus xst xln xdn xdu xnx xco xmi xwo xbl xsc yf) : zz_FQ N xre xwc xst xdn xsc yf := ⟨tf_1 h, tf_2 h, tf_4 h, tf_6 h, tf_13 h⟩
theorem tf_u3 {t : Nat} {v : Int32} (ht : t < N) (h : zz_TF N op xpe xre xwc xus xst xln xdn xdu xnx xco xmi xwo xbl xsc yf) : zz_TF N op xpe xre xwc (upd xus t v) xst xln xdn xdu xnx xco xmi xwo xbl xsc (upd yf (14 * t + 3) v) := by
  refine ⟨zz_col_o (by decide) (by decide) (by decide) h.1, zz_col_o (by decide) (by decide) (by decide) h.2.1, zz_col_o (by decide) (by decide) (by decide) h.2.2.1, zz_col_s (by decide) h.2.2.2.1, zz_col_o (by decide) (by decide) (by decide) h.2.2.2.2.1, zz_col_o (by decide) (by decide) (by decide) h.2.2.2.2.2.1, zz_col_o (by decide) (by decide) (by decide) h.2.2.2.2.2.2.1, zz_col_o (by decide) (by decide) (by decide) h.2.2.2.2.2.2.2.1, zz_col_o (by decide) (by decide) (by decide) h.2.2.2.2.2.2.2.2.1, zz_col_o (by decide) (by decide) (by decide) h.2.2.2.2.2.2.2.2.2.1, zz_col_o (by decide) (by decide) (by decide) h.2.2.2.2.2.2.2.2.2.2.1, zz_col_o (by decide) (by decide) (by decide) h.2.2.2.2.2.2.2.2.2.2.2.1, zz_col_o (by decide) (by decide) (by decide) h.2.2.2.2.2.2.2.2.2.2.2.2.1, zz_col_o (by decide) (by decide) (by decide) h.2.2.2.2.2.2.2.2.2.2.2.2.2.1, fun z => ⟨(pk_un (by omega)).trans (tf_dr h z).1, (pk_un (by omega)).trans (tf_dr h z).2⟩, fun s h1 h2 => ⟨(tf_ct h s h1 h2).1, (tf_ct h s h1 h2).2.1, (tf_ct h s h1 h2).2.2.1, (tf_ct h s h1 h2).2.2.2⟩, ?_⟩
  exact tf_st h
theorem tf_u4 {t : Nat} {v : Int32} (ht : t < N) (hv : v = 0 ∨ v = 1 ∨ v = 2) (h : zz_TF N op xpe xre xwc xus xst xln xdn xdu xnx xco xmi xwo xbl xsc yf) : zz_TF N op xpe xre xwc xus (upd xst t v) xln xdn xdu xnx xco xmi xwo xbl xsc (upd yf (14 * t + 4) v) := by
  refine ⟨zz_col_o (by decide) (by decide) (by decide) h.1, zz_col_o (by decide) (by decide) (by decide) h.2.1, zz_col_o (by decide) (by decide) (by decide) h.2.2.1, zz_col_o (by decide) (by decide) (by decide) h.2.2.2.1, zz_col_s (by decide) h.2.2.2.2.1, zz_col_o (by decide) (by decide) (by decide) h.2.2.2.2.2.1, zz_col_o (by decide) (by decide) (by decide) h.2.2.2.2.2.2.1, zz_col_o (by decide) (by decide) (by decide) h.2.2.2.2.2.2.2.1, zz_col_o (by decide) (by decide) (by decide) h.2.2.2.2.2.2.2.2.1, zz_col_o (by decide) (by decide) (by decide) h.2.2.2.2.2.2.2.2.2.1, zz_col_o (by decide) (by decide) (by decide) h.2.2.2.2.2.2.2.2.2.2.1, zz_col_o (by decide) (by decide) (by decide) h.2.2.2.2.2.2.2.2.2.2.2.1, zz_col_o (by decide) (by decide) (by decide) h.2.2.2.2.2.2.2.2.2.2.2.2.1, zz_col_o (by decide) (by decide) (by decide) h.2.2.2.2.2.2.2.2.2.2.2.2.2.1, fun z => ⟨(pk_un (by omega)).trans (tf_dr h z).1, (pk_un (by omega)).trans (tf_dr h z).2⟩, fun s h1 h2 => ⟨(tf_ct h s h1 h2).1, (tf_ct h s h1 h2).2.1, (tf_ct h s h1 h2).2.2.1, (tf_ct h s h1 h2).2.2.2⟩, ?_⟩
  exact fun s hs => by
    by_cases e : s = t
    · subst e; rw [pk_us]; exact hv
    · rw [pk_un e]; exact tf_st h s hs
theorem tf_u5 {t : Nat} {v : Int32} (ht : t < N) (h : zz_TF N op xpe xre xwc xus xst xln xdn xdu xnx xco xmi xwo xbl xsc yf) : zz_TF N op xpe xre xwc xus xst (upd xln t v) xdn xdu xnx xco xmi xwo xbl xsc (upd yf (14 * t + 5) v) := by
  refine ⟨zz_col_o (by decide) (by decide) (by decide) h.1, zz_col_o (by decide) (by decide) (by decide) h.2.1, zz_col_o (by decide) (by decide) (by decide) h.2.2.1, zz_col_o (by decide) (by decide) (by decide) h.2.2.2.1, zz_col_o (by decide) (by decide) (by decide) h.2.2.2.2.1, zz_col_s (by decide) h.2.2.2.2.2.1, zz_col_o (by decide) (by decide) (by decide) h.2.2.2.2.2.2.1, zz_col_o (by decide) (by decide) (by decide) h.2.2.2.2.2.2.2.1, zz_col_o (by decide) (by decide) (by decide) h.2.2.2.2.2.2.2.2.1, zz_col_o (by decide) (by decide) (by decide) h.2.2.2.2.2.2.2.2.2.1, zz_col_o (by decide) (by decide) (by decide) h.2.2.2.2.2.2.2.2.2.2.1, zz_col_o (by decide) (by decide) (by decide) h.2.2.2.2.2.2.2.2.2.2.2.1, zz_col_o (by decide) (by decide) (by decide) h.2.2.2.2.2.2.2.2.2.2.2.2.1, zz_col_o (by decide) (by decide) (by decide) h.2.2.2.2.2.2.2.2.2.2.2.2.2.1, fun z => ⟨(pk_un (by omega)).trans (tf_dr h z).1, (pk_un (by omega)).trans (tf_dr h z).2⟩, fun s h1 h2 => ⟨(tf_ct h s h1 h2).1, (tf_ct h s h1 h2).2.1, (tf_ct h s h1 h2).2.2.1, (tf_ct h s h1 h2).2.2.2⟩, ?_⟩
  exact tf_st h
theorem tf_u6 {t : Nat} {v : Int32} (ht : t < N) (h : zz_TF N op xpe xre xwc xus xst xln xdn xdu xnx xco xmi xwo xbl xsc yf) : zz_TF N op xpe xre xwc xus xst xln (upd xdn t v) xdu xnx xco xmi xwo xbl xsc (upd yf (14 * t + 6) v) := by
  refine ⟨zz_col_o (by decide) (by decide) (by decide) h.1, zz_col_o (by decide) (by decide) (by decide) h.2.1, zz_col_o (by decide) (by decide) (by decide) h.2.2.1, zz_col_o (by decide) (by decide) (by decide) h.2.2.2.1, zz_col_o (by decide) (by decide) (by decide) h.2.2.2.2.1, zz_col_o (by decide) (by decide) (by decide) h.2.2.2.2.2.1, zz_col_s (by decide) h.2.2.2.2.2.2.1, zz_col_o (by decide) (by decide) (by decide) h.2.2.2.2.2.2.2.1, zz_col_o (by decide) (by decide) (by decide) h.2.2.2.2.2.2.2.2.1, zz_col_o (by decide) (by decide) (by decide) h.2.2.2.2.2.2.2.2.2.1, zz_col_o (by decide) (by decide) (by decide) h.2.2.2.2.2.2.2.2.2.2.1, zz_col_o (by decide) (by decide) (by decide) h.2.2.2.2.2.2.2.2.2.2.2.1, zz_col_o (by decide) (by decide) (by decide) h.2.2.2.2.2.2.2.2.2.2.2.2.1, zz_col_o (by decide) (by decide) (by decide) h.2.2.2.2.2.2.2.2.2.2.2.2.2.1, fun z => ⟨(pk_un (by omega)).trans (tf_dr h z).1, (pk_un (by omega)).trans (tf_dr h z).2⟩, fun s h1 h2 => ⟨(tf_ct h s h1 h2).1, (tf_ct h s h1 h2).2.1, (tf_ct h s h1 h2).2.2.1, (tf_ct h s h1 h2).2.2.2⟩, ?_⟩
  exact tf_st h
theorem tf_u7 {t : Nat} {v : Int32} (ht : t < N) (h : zz_TF N op xpe xre xwc xus xst xln xdn xdu xnx xco xmi xwo xbl xsc yf) : zz_TF N op xpe xre xwc xus xst xln xdn (upd xdu t v) xnx xco xmi xwo xbl xsc (upd yf (14 * t + 7) v) := by
  refine ⟨zz_col_o (by decide) (by decide) (by decide) h.1, zz_col_o (by decide) (by decide) (by decide) h.2.1, zz_col_o (by decide) (by decide) (by decide) h.2.2.1, zz_col_o (by decide) (by decide) (by decide) h.2.2.2.1, zz_col_o (by decide) (by decide) (by decide) h.2.2.2.2.1, zz_col_o (by decide) (by decide) (by decide) h.2.2.2.2.2.1, zz_col_o (by decide) (by decide) (by decide) h.2.2.2.2.2.2.1, zz_col_s (by decide) h.2.2.2.2.2.2.2.1, zz_col_o (by decide) (by decide) (by decide) h.2.2.2.2.2.2.2.2.1, zz_col_o (by decide) (by decide) (by decide) h.2.2.2.2.2.2.2.2.2.1, zz_col_o (by decide) (by decide) (by decide) h.2.2.2.2.2.2.2.2.2.2.1, zz_col_o (by decide) (by decide) (by decide) h.2.2.2.2.2.2.2.2.2.2.2.1, zz_col_o (by decide) (by decide) (by decide) h.2.2.2.2.2.2.2.2.2.2.2.2.1, zz_col_o (by decide) (by decide) (by decide) h.2.2.2.2.2.2.2.2.2.2.2.2.2.1, fun z => ⟨(pk_un (by omega)).trans (tf_dr h z).1, (pk_un (by omega)).trans (tf_dr h z).2⟩, fun s h1 h2 => ⟨(tf_ct h s h1 h2).1, (tf_ct h s h1 h2).2.1, (tf_ct h s h1 h2).2.2.1, (tf_ct h s h1 h2).2.2.2⟩, ?_⟩
  exact tf_st h
theorem tf_u8 {t : Nat} {v : Int32} (ht : t < N) (h : zz_TF N op xpe xre xwc xus xst xln xdn xdu xnx xco xmi xwo xbl xsc yf) : zz_TF N op xpe xre xwc xus xst xln xdn xdu (upd xnx t v) xco xmi xwo xbl xsc (upd yf (14 * t + 8) v) := by
  refine ⟨zz_col_o (by decide) (by decide) (by decide) h.1, zz_col_o (by decide) (by decide) (by decide) h.2.1, zz_col_o (by decide) (by decide) (by decide) h.2.2.1, zz_col_o (by decide) (by decide) (by decide) h.2.2.2.1, zz_col_o (by decide) (by decide) (by decide) h.2.2.2.2.1, zz_col_o (by decide) (by decide) (by decide) h.2.2.2.2.2.1, zz_col_o (by decide) (by decide) (by decide) h.2.2.2.2.2.2.1, zz_col_o (by decide) (by decide) (by decide) h.2.2.2.2.2.2.2.1, zz_col_s (by decide) h.2.2.2.2.2.2.2.2.1, zz_col_o (by decide) (by decide) (by decide) h.2.2.2.2.2.2.2.2.2.1, zz_col_o (by decide) (by decide) (by decide) h.2.2.2.2.2.2.2.2.2.2.1, zz_col_o (by decide) (by decide) (by decide) h.2.2.2.2.2.2.2.2.2.2.2.1, zz_col_o (by decide) (by decide) (by decide) h.2.2.2.2.2.2.2.2.2.2.2.2.1, zz_col_o (by decide) (by decide) (by decide) h.2.2.2.2.2.2.2.2.2.2.2.2.2.1, fun z => ⟨(pk_un (by omega)).trans (tf_dr h z).1, (pk_un (by omega)).trans (tf_dr h z).2⟩, fun s h1 h2 => ⟨(tf_ct h s h1 h2).1, (tf_ct h s h1 h2).2.1, (tf_ct h s h1 h2).2.2.1, (tf_ct h s h1 h2).2.2.2⟩, ?_⟩
  exact tf_st h
theorem tf_u9 {t : Nat} {v : Int32} (ht : t < N) (h : zz_TF N op xpe xre xwc xus xst xln xdn xdu xnx xco xmi xwo xbl xsc yf) : zz_TF N op xpe xre xwc xus xst xln xdn xdu xnx (upd xco t v) xmi xwo xbl xsc (upd yf (14 * t + 9) v) := by
  refine ⟨zz_col_o (by decide) (by decide) (by decide) h.1, zz_col_o (by decide) (by decide) (by decide) h.2.1, zz_col_o (by decide) (by decide) (by decide) h.2.2.1, zz_col_o (by decide) (by decide) (by decide) h.2.2.2.1, zz_col_o (by decide) (by decide) (by decide) h.2.2.2.2.1, zz_col_o (by decide) (by decide) (by decide) h.2.2.2.2.2.1, zz_col_o (by decide) (by decide) (by decide) h.2.2.2.2.2.2.1, zz_col_o (by decide) (by decide) (by decide) h.2.2.2.2.2.2.2.1, zz_col_o (by decide) (by decide) (by decide) h.2.2.2.2.2.2.2.2.1, zz_col_s (by decide) h.2.2.2.2.2.2.2.2.2.1, zz_col_o (by decide) (by decide) (by decide) h.2.2.2.2.2.2.2.2.2.2.1, zz_col_o (by decide) (by decide) (by decide) h.2.2.2.2.2.2.2.2.2.2.2.1, zz_col_o (by decide) (by decide) (by decide) h.2.2.2.2.2.2.2.2.2.2.2.2.1, zz_col_o (by decide) (by decide) (by decide) h.2.2.2.2.2.2.2.2.2.2.2.2.2.1, fun z => ⟨(pk_un (by omega)).trans (tf_dr h z).1, (pk_un (by omega)).trans (tf_dr h z).2⟩, fun s h1 h2 => ⟨(pk_un (by omega)).trans (tf_ct h s h1 h2).1, (tf_ct h s h1 h2).2.1, (tf_ct h s h1 h2).2.2.1, (tf_ct h s h1 h2).2.2.2⟩, ?_⟩
  exact tf_st h
theorem tf_u10 {t : Nat} {v : Int32} (ht : t < N) (h : zz_TF N op xpe xre xwc xus xst xln xdn xdu xnx xco xmi xwo xbl xsc yf) : zz_TF N op xpe xre xwc xus xst xln xdn xdu xnx xco (upd xmi t v) xwo xbl xsc (upd yf (14 * t + 10) v) := by
  refine ⟨zz_col_o (by decide) (by decide) (by decide) h.1, zz_col_o (by decide) (by decide) (by decide) h.2.1, zz_col_o (by decide) (by decide) (by decide) h.2.2.1, zz_col_o (by decide) (by decide) (by decide) h.2.2.2.1, zz_col_o (by decide) (by decide) (by decide) h.2.2.2.2.1, zz_col_o (by decide) (by decide) (by decide) h.2.2.2.2.2.1, zz_col_o (by decide) (by decide) (by decide) h.2.2.2.2.2.2.1, zz_col_o (by decide) (by decide) (by decide) h.2.2.2.2.2.2.2.1, zz_col_o (by decide) (by decide) (by decide) h.2.2.2.2.2.2.2.2.1, zz_col_o (by decide) (by decide) (by decide) h.2.2.2.2.2.2.2.2.2.1, zz_col_s (by decide) h.2.2.2.2.2.2.2.2.2.2.1, zz_col_o (by decide) (by decide) (by decide) h.2.2.2.2.2.2.2.2.2.2.2.1, zz_col_o (by decide) (by decide) (by decide) h.2.2.2.2.2.2.2.2.2.2.2.2.1, zz_col_o (by decide) (by decide) (by decide) h.2.2.2.2.2.2.2.2.2.2.2.2.2.1, fun z => ⟨(pk_un (by omega)).trans (tf_dr h z).1, (pk_un (by omega)).trans (tf_dr h z).2⟩, fun s h1 h2 => ⟨(tf_ct h s h1 h2).1, (pk_un (by omega)).trans (tf_ct h s h1 h2).2.1, (tf_ct h s h1 h2).2.2.1, (tf_ct h s h1 h2).2.2.2⟩, ?_⟩
  exact tf_st h
theorem tf_u11 {t : Nat} {v : Int32} (ht : t < N) (h : zz_TF N op xpe xre xwc xus xst xln xdn xdu xnx xco xmi xwo xbl xsc yf) : zz_TF N op xpe xre xwc xus xst xln xdn xdu xnx xco xmi (upd xwo t v) xbl xsc (upd yf (14 * t + 11) v) := by
  refine ⟨zz_col_o (by decide) (by decide) (by decide) h.1, zz_col_o (by decide) (by decide) (by decide) h.2.1, zz_col_o (by decide) (by decide) (by decide) h.2.2.1, zz_col_o (by decide) (by decide) (by decide) h.2.2.2.1, zz_col_o (by decide) (by decide) (by decide) h.2.2.2.2.1, zz_col_o (by decide) (by decide) (by decide) h.2.2.2.2.2.1, zz_col_o (by decide) (by decide) (by decide) h.2.2.2.2.2.2.1, zz_col_o (by decide) (by decide) (by decide) h.2.2.2.2.2.2.2.1, zz_col_o (by decide) (by decide) (by decide) h.2.2.2.2.2.2.2.2.1, zz_col_o (by decide) (by decide) (by decide) h.2.2.2.2.2.2.2.2.2.1, zz_col_o (by decide) (by decide) (by decide) h.2.2.2.2.2.2.2.2.2.2.1, zz_col_s (by decide) h.2.2.2.2.2.2.2.2.2.2.2.1, zz_col_o (by decide) (by decide) (by decide) h.2.2.2.2.2.2.2.2.2.2.2.2.1, zz_col_o (by decide) (by decide) (by decide) h.2.2.2.2.2.2.2.2.2.2.2.2.2.1, fun z => ⟨(pk_un (by omega)).trans (tf_dr h z).1, (pk_un (by omega)).trans (tf_dr h z).2⟩, fun s h1 h2 => ⟨(tf_ct h s h1 h2).1, (tf_ct h s h1 h2).2.1, (pk_un (by omega)).trans (tf_ct h s h1 h2).2.2.1, (tf_ct h s h1 h2).2.2.2⟩, ?_⟩
  exact tf_st h
theorem tf_u12 {t : Nat} {v : Int32} (ht : t < N) (h : zz_TF N op xpe xre xwc xus xst xln xdn xdu xnx xco xmi xwo xbl xsc yf) : zz_TF N op xpe xre xwc xus xst xln xdn xdu xnx xco xmi xwo (upd xbl t v) xsc (upd yf (14 * t + 12) v) := by
  refine ⟨zz_col_o (by decide) (by decide) (by decide) h.1, zz_col_o (by decide) (by decide) (by decide) h.2.1, zz_col_o (by decide) (by decide) (by decide) h.2.2.1, zz_col_o (by decide) (by decide) (by decide) h.2.2.2.1, zz_col_o (by decide) (by decide) (by decide) h.2.2.2.2.1, zz_col_o (by decide) (by decide) (by decide) h.2.2.2.2.2.1, zz_col_o (by decide) (by decide) (by decide) h.2.2.2.2.2.2.1, zz_col_o (by decide) (by decide) (by decide) h.2.2.2.2.2.2.2.1, zz_col_o (by decide) (by decide) (by decide) h.2.2.2.2.2.2.2.2.1, zz_col_o (by decide) (by decide) (by decide) h.2.2.2.2.2.2.2.2.2.1, zz_col_o (by decide) (by decide) (by decide) h.2.2.2.2.2.2.2.2.2.2.1, zz_col_o (by decide) (by decide) (by decide) h.2.2.2.2.2.2.2.2.2.2.2.1, zz_col_s (by decide) h.2.2.2.2.2.2.2.2.2.2.2.2.1, zz_col_o (by decide) (by decide) (by decide) h.2.2.2.2.2.2.2.2.2.2.2.2.2.1, fun z => ⟨(pk_un (by omega)).trans (tf_dr h z).1, (pk_un (by omega)).trans (tf_dr h z).2⟩, fun s h1 h2 => ⟨(tf_ct h s h1 h2).1, (tf_ct h s h1 h2).2.1, (tf_ct h s h1 h2).2.2.1, (pk_un (by omega)).trans (tf_ct h s h1 h2).2.2.2⟩, ?_⟩
  exact tf_st h
/-- ranges -/
def zz_RG (xre xwc xsc xun xfr xto : Nat → Int32) : Prop := (∀ t, t < 6 → zz_nat 4 (xsc t)) ∧ (∀ t, t < 6 → zz_nat 30 (xre t)) ∧ (∀ t, t < 6 → zz_nat 30 (xwc t)) ∧ (∀ q, q < 24 → zz_nat 30 (xfr q)) ∧ (∀ q, q < 24 → zz_nat 30 (xto q)) ∧ (∀ t, t < 6 → ∀ s, s < zc (xsc t) → ¬ xun (4 * t + s) ≤ 0)
/-- servers -/
def zz_RV (M : Nat) (xbu xsp xle xsd xql xex ysv : Nat → Int32) : Prop := zz_col 6 3 ysv 0 xbu ∧ zz_col 6 3 ysv 1 xsp ∧ zz_col 6 3 ysv 2 xle ∧ zz_col 6 3 ysv 3 xsd ∧ zz_col 6 3 ysv 4 xql ∧ zz_col 6 3 ysv 5 xex ∧ (∀ s, M ≤ s → s < 3 → xql s = 0 ∧ xex s = 0)
theorem rv_0 (h : zz_RV M xbu xsp xle xsd xql xex ysv) : ∀ s, s < 3 → ysv (6 * s) = xbu s := h.1
theorem rv_1 (h : zz_RV M xbu xsp xle xsd xql xex ysv) : ∀ s, s < 3 → ysv (6 * s + 1) = xsp s := h.2.1
theorem rv_2 (h : zz_RV M xbu xsp xle xsd xql xex ysv) : ∀ s, s < 3 → ysv (6 * s + 2) = xle s := h.2.2.1
theorem rv_3 (h : zz_RV M xbu xsp xle xsd xql xex ysv) : ∀ s, s < 3 → ysv (6 * s + 3) = xsd s := h.2.2.2.1
theorem rv_4 (h : zz_RV M xbu xsp xle xsd xql xex ysv) : ∀ s, s < 3 → ysv (6 * s + 4) = xql s := h.2.2.2.2.1
theorem rv_5 (h : zz_RV M xbu xsp xle xsd xql xex ysv) : ∀ s, s < 3 → ysv (6 * s + 5) = xex s := h.2.2.2.2.2.1
theorem rv_z (h : zz_RV M xbu xsp xle xsd xql xex ysv) : ∀ s, M ≤ s → s < 3 → xql s = 0 ∧ xex s = 0 := h.2.2.2.2.2.2
theorem rv_u2 {t : Nat} {v : Int32} (ht : t < M) (h : zz_RV M xbu xsp xle xsd xql xex ysv) : zz_RV M xbu xsp (upd xle t v) xsd xql xex (upd ysv (6 * t + 2) v) :=
  ⟨zz_col_o (by decide) (by decide) (by decide) h.1, zz_col_o (by decide) (by decide) (by decide) h.2.1, zz_col_s (by decide) h.2.2.1, zz_col_o (by decide) (by decide) (by decide) h.2.2.2.1, zz_col_o (by decide) (by decide) (by decide) h.2.2.2.2.1, zz_col_o (by decide) (by decide) (by decide) h.2.2.2.2.2.1, fun s h1 h2 => ⟨(rv_z h s h1 h2).1, (rv_z h s h1 h2).2⟩⟩
theorem rv_u3 {t : Nat} {v : Int32} (ht : t < M) (h : zz_RV M xbu xsp xle xsd xql xex ysv) : zz_RV M xbu xsp xle (upd xsd t v) xql xex (upd ysv (6 * t + 3) v) :=
  ⟨zz_col_o (by decide) (by decide) (by decide) h.1, zz_col_o (by decide) (by decide) (by decide) h.2.1, zz_col_o (by decide) (by decide) (by decide) h.2.2.1, zz_col_s (by decide) h.2.2.2.1, zz_col_o (by decide) (by decide) (by decide) h.2.2.2.2.1, zz_col_o (by decide) (by decide) (by decide) h.2.2.2.2.2.1, fun s h1 h2 => ⟨(rv_z h s h1 h2).1, (rv_z h s h1 h2).2⟩⟩
theorem rv_u4 {t : Nat} {v : Int32} (ht : t < M) (h : zz_RV M xbu xsp xle xsd xql xex ysv) : zz_RV M xbu xsp xle xsd (upd xql t v) xex (upd ysv (6 * t + 4) v) :=
  ⟨zz_col_o (by decide) (by decide) (by decide) h.1, zz_col_o (by decide) (by decide) (by decide) h.2.1, zz_col_o (by decide) (by decide) (by decide) h.2.2.1, zz_col_o (by decide) (by decide) (by decide) h.2.2.2.1, zz_col_s (by decide) h.2.2.2.2.1, zz_col_o (by decide) (by decide) (by decide) h.2.2.2.2.2.1, fun s h1 h2 => ⟨(pk_un (by omega)).trans (rv_z h s h1 h2).1, (rv_z h s h1 h2).2⟩⟩
theorem rv_u5 {t : Nat} {v : Int32} (ht : t < M) (h : zz_RV M xbu xsp xle xsd xql xex ysv) : zz_RV M xbu xsp xle xsd xql (upd xex t v) (upd ysv (6 * t + 5) v) :=
  ⟨zz_col_o (by decide) (by decide) (by decide) h.1, zz_col_o (by decide) (by decide) (by decide) h.2.1, zz_col_o (by decide) (by decide) (by decide) h.2.2.1, zz_col_o (by decide) (by decide) (by decide) h.2.2.2.1, zz_col_o (by decide) (by decide) (by decide) h.2.2.2.2.1, zz_col_s (by decide) h.2.2.2.2.2.1, fun s h1 h2 => ⟨(rv_z h s h1 h2).1, (pk_un (by omega)).trans (rv_z h s h1 h2).2⟩⟩
/-- queues: equal below the length, with tickets that were issued -/
def zz_RQ (mQ K : Nat) (xql xqu xqt yqu yqt : Nat → Int32) : Prop := ∀ s, s < 3 → zz_nat mQ (xql s) ∧ ∀ p, p < zc (xql s) → yqu (6 * s + p) = xqu (6 * s + p) ∧ yqt (6 * s + p) = xqt (6 * s + p) ∧ ∃ j, j < K ∧ xqt (6 * s + p) = nI j
/-- the last 64 ticks -/
def zz_RL (T : Nat) (xtr ylg : Nat → Int32) : Prop := ∀ j, j < T → T ≤ j + 64 → xtr (j % 64) = ylg j
/-- the last 32 tickets -/
def zz_RN (K : Nat) (xfa yfi : Nat → Int32) : Prop := (∀ j, j < K → K ≤ j + 32 → xfa (j % 32) = if yfi j = 0 then -7 else yfi j) ∧ ∀ j, K ≤ j → yfi j = 0
def zz_RB (k mT mS R mQ T N : Nat) (op : Int32) (M K : Nat) : Prop := mT ≤ 6 ∧ mS ≤ 3 ∧ R ≤ 3 ∧ mQ ≤ 6 ∧ T ≤ 10000 ∧ N ≤ mT ∧ M ≤ mS ∧ K ≤ k ∧ (op = 0 ∨ op = 1) ∧ (¬ op = 0 → N < mT)
def zz_RR (k mT mS R mQ T N : Nat) (op : Int32) (M K : Nat) (xtr xcp xlo xpe xre xwc xus xst xln xdn xdu xnx xco xmi xwo xbl xsc xrs xun xfr xto xbu xsp xle xsd xex xql xqu xqt xfa yf ysec ysv yqu yqt ylg yfi : Nat → Int32) : Prop :=
  zz_RB k mT mS R mQ T N op M K ∧ zz_TF N op xpe xre xwc xus xst xln xdn xdu xnx xco xmi xwo xbl xsc yf ∧ zz_RG xre xwc xsc xun xfr xto ∧ zz_SQ xrs xun xfr xto ysec ∧ zz_RV M xbu xsp xle xsd xql xex ysv ∧ zz_RQ mQ K xql xqu xqt yqu yqt ∧ zz_RL T xtr ylg ∧ zz_RN K xfa yfi
end
section
/-! release; the two last phases of a tick -/
variable {mT mS R mQ T N M K : Nat} {op : Int32} {xtr xcp xlo xpe xre xwc xus xst xln xdn xdu xnx xco xmi xwo xbl xsc xrs xun xfr xto xbu xsp xle xsd xex xql xqu xqt xfa : Nat → Int32} {yf ysec ysv yqu yqt ylg yfi : Nat → Int32}
theorem xx_release {post : SX → Prop} {t : Nat} (ht : t < 6) (h : post (nI mT, nI mS, nI R, nI mQ, nI T, nI N, op, nI M, nI K, xtr, xcp, xlo, xpe, xre, xwc, xus, upd xst t 1, upd xln t (xus t), upd xdn t 0, upd xdu t (nI T + xre t), upd xnx t (nI T + xpe t), xco, xmi, xwo, xbl, xsc, xrs, xun, xfr, xto, xbu, xsp, xle, xsd, xex, xql, xqu, xqt, xfa)) : wpX_release post (nI mT, nI mS, nI R, nI mQ, nI T, nI N, op, nI M, nI K, xtr, xcp, xlo, xpe, xre, xwc, xus, xst, xln, xdn, xdu, xnx, xco, xmi, xwo, xbl, xsc, xrs, xun, xfr, xto, xbu, xsp, xle, xsd, xex, xql, xqu, xqt, xfa) (nI t) := by
  simp (disch := omega) only [wpX_release, nI_clamp, zz_in, zz_m4, zz_m6, zz_m14, zz_m16, nI_add, zz_p0, zz_p1, zz_p2, zz_p3, zz_p4, zz_p5, zz_p6, zz_p7, zz_p8, zz_p9, zz_p10, zz_p11, zz_p12, zz_p13, zz_a16, true_and, forall_eq]
  exact h
theorem yy_release {post : SY → Prop} {t : Nat} (ht : t < 6) (hF : zz_TF N op xpe xre xwc xus xst xln xdn xdu xnx xco xmi xwo xbl xsc yf) (h : post (nI mT, nI mS, nI R, nI mQ, nI T, nI N, op, nI M, nI K, upd (upd (upd (upd (upd yf (14 * t + 4) 1) (14 * t + 5) (xus t)) (14 * t + 6) 0) (14 * t + 7) (nI T + xre t)) (14 * t + 8) (nI T + xpe t), ysec, ysv, yqu, yqt, xcp, xlo, ylg, yfi)) : wpY_release post (nI mT, nI mS, nI R, nI mQ, nI T, nI N, op, nI M, nI K, yf, ysec, ysv, yqu, yqt, xcp, xlo, ylg, yfi) (nI t) := by
  have f0 := tf_0 hF
  have f1 := tf_1 hF
  have f3 := tf_3 hF
  simp (disch := omega) only [wpY_release, pk_un, f0, f1, f3, nI_clamp, zz_in, zz_m4, zz_m6, zz_m14, zz_m16, nI_add, zz_p0, zz_p1, zz_p2, zz_p3, zz_p4, zz_p5, zz_p6, zz_p7, zz_p8, zz_p9, zz_p10, zz_p11, zz_p12, zz_p13, zz_a16, true_and, forall_eq]
  exact h
theorem tf_rel {t : Nat} {a b : Int32} (ht : t < N) (h : zz_TF N op xpe xre xwc xus xst xln xdn xdu xnx xco xmi xwo xbl xsc yf) : zz_TF N op xpe xre xwc xus (upd xst t 1) (upd xln t (xus t)) (upd xdn t 0) (upd xdu t a) (upd xnx t b) xco xmi xwo xbl xsc (upd (upd (upd (upd (upd yf (14 * t + 4) 1) (14 * t + 5) (xus t)) (14 * t + 6) 0) (14 * t + 7) a) (14 * t + 8) b) :=
  tf_u8 ht (tf_u7 ht (tf_u6 ht (tf_u5 ht (tf_u4 ht (Or.inr (Or.inl rfl)) h))))
/-- the last phase: releases -/
theorem ph_rel (hN : N ≤ 6) : ∀ (d i : Nat) (xst xln xdn xdu xnx yf : Nat → Int32), i + d = N → zz_TF N op xpe xre xwc xus xst xln xdn xdu xnx xco xmi xwo xbl xsc yf → ∃ (xst' xln' xdn' xdu' xnx' yf' : Nat → Int32), zz_TF N op xpe xre xwc xus xst' xln' xdn' xdu' xnx' xco xmi xwo xbl xsc yf' ∧ (∀ post : SX → Prop, post (nI mT, nI mS, nI R, nI mQ, nI T, nI N, op, nI M, nI K, xtr, xcp, xlo, xpe, xre, xwc, xus, xst', xln', xdn', xdu', xnx', xco, xmi, xwo, xbl, xsc, xrs, xun, xfr, xto, xbu, xsp, xle, xsd, xex, xql, xqu, xqt, xfa) → wX_releaseJobs_2 post (d + 1) (nI i) (nI mT) (nI mS) (nI R) (nI mQ) (nI T) (nI N) op (nI M) (nI K) xtr xcp xlo xpe xre xwc xus xst xln xdn xdu xnx xco xmi xwo xbl xsc xrs xun xfr xto xbu xsp xle xsd xex xql xqu xqt xfa) ∧ (∀ post : SY → Prop, post (nI mT, nI mS, nI R, nI mQ, nI T, nI N, op, nI M, nI K, yf', ysec, ysv, yqu, yqt, xcp, xlo, ylg, yfi) → wY_tick_771 post (d + 1) (nI i) (nI mT) (nI mS) (nI R) (nI mQ) (nI T) (nI N) op (nI M) (nI K) yf ysec ysv yqu yqt xcp xlo ylg yfi) := by
  intro d
  induction d with
  | zero =>
    intro i xst xln xdn xdu xnx yf hi h
    have e : i = N := by omega
    subst e
    refine ⟨xst, xln, xdn, xdu, xnx, yf, h, fun post hp => ?_, fun post hp => ?_⟩
    · rw [wX_releaseJobs_2]
      exact br_t (Int32.le_refl _) hp
    · rw [wY_tick_771]
      exact br_t (Int32.le_refl _) hp
  | succ d ih =>
    intro i xst xln xdn xdu xnx yf hi h
    have hiN : i < N := by omega
    have f8 := tf_8 h
    by_cases q : xnx i = nI T
    · obtain ⟨xst', xln', xdn', xdu', xnx', yf', h', hX, hY⟩ := ih (i + 1) _ _ _ _ _ _ (by omega) (tf_rel (a := nI T + xre i) (b := nI T + xpe i) hiN h)
      refine ⟨xst', xln', xdn', xdu', xnx', yf', h', fun post hp => ?_, fun post hp => ?_⟩
      · rw [wX_releaseJobs_2]
        simp (disch := omega) only [nI_0, nI_clamp, zz_in, zz_m4, zz_m6, zz_m14, zz_m16, nI_add, zz_p0, zz_p1, zz_p2, zz_p3, zz_p4, zz_p5, zz_p6, zz_p7, zz_p8, zz_p9, zz_p10, zz_p11, zz_p12, zz_p13, zz_a16, true_and, forall_eq]
        refine br_f (nI_ge hiN (by omega)) (br_t q (xx_release (by omega) ?_))
        exact hX post hp
      · rw [wY_tick_771]
        simp (disch := omega) only [f8, nI_clamp, zz_in, zz_m4, zz_m6, zz_m14, zz_m16, nI_add, zz_p0, zz_p1, zz_p2, zz_p3, zz_p4, zz_p5, zz_p6, zz_p7, zz_p8, zz_p9, zz_p10, zz_p11, zz_p12, zz_p13, zz_a16, true_and, forall_eq]
        refine br_f (nI_ge hiN (by omega)) (br_t q (yy_release (by omega) h ?_))
        exact hY post hp
    · obtain ⟨xst', xln', xdn', xdu', xnx', yf', h', hX, hY⟩ := ih (i + 1) _ _ _ _ _ _ (by omega) h
      refine ⟨xst', xln', xdn', xdu', xnx', yf', h', fun post hp => ?_, fun post hp => ?_⟩
      · rw [wX_releaseJobs_2]
        simp (disch := omega) only [nI_0, nI_clamp, zz_in, zz_m4, zz_m6, zz_m14, zz_m16, nI_add, zz_p0, zz_p1, zz_p2, zz_p3, zz_p4, zz_p5, zz_p6, zz_p7, zz_p8, zz_p9, zz_p10, zz_p11, zz_p12, zz_p13, zz_a16, true_and, forall_eq]
        exact br_f (nI_ge hiN (by omega)) (br_f q (hX post hp))
      · rw [wY_tick_771]
        simp (disch := omega) only [f8, nI_clamp, zz_in, zz_m4, zz_m6, zz_m14, zz_m16, nI_add, zz_p0, zz_p1, zz_p2, zz_p3, zz_p4, zz_p5, zz_p6, zz_p7, zz_p8, zz_p9, zz_p10, zz_p11, zz_p12, zz_p13, zz_a16, true_and, forall_eq]
        exact br_f (nI_ge hiN (by omega)) (br_f q (hY post hp))
/-- late jobs are dropped -/
theorem ph_drop (hN : N ≤ 6) : ∀ (d i : Nat) (xst xmi yf : Nat → Int32), i + d = N → zz_TF N op xpe xre xwc xus xst xln xdn xdu xnx xco xmi xwo xbl xsc yf → ∃ (xst' xmi' yf' : Nat → Int32), zz_TF N op xpe xre xwc xus xst' xln xdn xdu xnx xco xmi' xwo xbl xsc yf' ∧ (∀ post : SX → Prop, post (nI mT, nI mS, nI R, nI mQ, nI T, nI N, op, nI M, nI K, xtr, xcp, xlo, xpe, xre, xwc, xus, xst', xln, xdn, xdu, xnx, xco, xmi', xwo, xbl, xsc, xrs, xun, xfr, xto, xbu, xsp, xle, xsd, xex, xql, xqu, xqt, xfa) → wX_dropLateJobs_2 post (nI mT) (nI mS) (nI R) (nI mQ) (nI T) (nI N) op (nI M) (nI K) (d + 1) (nI i) xtr xcp xlo xpe xre xwc xus xst xln xdn xdu xnx xco xmi xwo xbl xsc xrs xun xfr xto xbu xsp xle xsd xex xql xqu xqt xfa) ∧ (∀ post : SY → Prop, (∃ n771 : Nat, wY_tick_771 post n771 0 (nI mT) (nI mS) (nI R) (nI mQ) (nI T) (nI N) op (nI M) (nI K) yf' ysec ysv yqu yqt xcp xlo ylg yfi) → wY_tick_694 post (nI mT) (nI mS) (nI R) (nI mQ) (nI T) (nI N) op (nI M) (nI K) (d + 1) (nI i) yf ysec ysv yqu yqt xcp xlo ylg yfi) := by
  intro d
  induction d with
  | zero =>
    intro i xst xmi yf hi h
    have e : i = N := by omega
    subst e
    refine ⟨xst, xmi, yf, h, fun post hp => ?_, fun post hp => ?_⟩
    · rw [wX_dropLateJobs_2]
      exact br_t (Int32.le_refl _) hp
    · rw [wY_tick_694]
      exact br_t (Int32.le_refl _) hp
  | succ d ih =>
    intro i xst xmi yf hi h
    have hiN : i < N := by omega
    have f4 := tf_4 h
    have f7 := tf_7 h
    have f10 := tf_10 h
    have hst := tf_st h i hiN
    by_cases q : xst i = 0
    · obtain ⟨xst', xmi', yf', h', hX, hY⟩ := ih (i + 1) _ _ _ (by omega) h
      refine ⟨xst', xmi', yf', h', fun post hp => ?_, fun post hp => ?_⟩
      · rw [wX_dropLateJobs_2]
        simp (disch := omega) only [nI_0, nI_clamp, zz_in, zz_m4, zz_m6, zz_m14, zz_m16, nI_add, zz_p0, zz_p1, zz_p2, zz_p3, zz_p4, zz_p5, zz_p6, zz_p7, zz_p8, zz_p9, zz_p10, zz_p11, zz_p12, zz_p13, zz_a16, true_and, forall_eq]
        exact br_f (nI_ge hiN (by omega)) (br_t q (hX post hp))
      · rw [wY_tick_694]
        simp (disch := omega) only [f7, nI_clamp, zz_in, zz_m4, zz_m6, zz_m14, zz_m16, nI_add, zz_p0, zz_p1, zz_p2, zz_p3, zz_p4, zz_p5, zz_p6, zz_p7, zz_p8, zz_p9, zz_p10, zz_p11, zz_p12, zz_p13, zz_a16, true_and, forall_eq]
        refine br_f (nI_ge hiN (by omega)) (yy_hasJob hiN hN f4 (fun z => ?_) (fun _ _ => br_t rfl (hY post hp)))
        rw [q] at z
        exact absurd z (by decide)
    · have hj : xst i = 1 ∨ xst i = 2 := hst.elim (fun z => absurd z q) id
      by_cases p : nI T < xdu i
      · obtain ⟨xst', xmi', yf', h', hX, hY⟩ := ih (i + 1) _ _ _ (by omega) h
        refine ⟨xst', xmi', yf', h', fun post hp => ?_, fun post hp => ?_⟩
        · rw [wX_dropLateJobs_2]
          simp (disch := omega) only [nI_0, nI_clamp, zz_in, zz_m4, zz_m6, zz_m14, zz_m16, nI_add, zz_p0, zz_p1, zz_p2, zz_p3, zz_p4, zz_p5, zz_p6, zz_p7, zz_p8, zz_p9, zz_p10, zz_p11, zz_p12, zz_p13, zz_a16, true_and, forall_eq]
          exact br_f (nI_ge hiN (by omega)) (br_f q (br_t p (hX post hp)))
        · rw [wY_tick_694]
          simp (disch := omega) only [f7, nI_clamp, zz_in, zz_m4, zz_m6, zz_m14, zz_m16, nI_add, zz_p0, zz_p1, zz_p2, zz_p3, zz_p4, zz_p5, zz_p6, zz_p7, zz_p8, zz_p9, zz_p10, zz_p11, zz_p12, zz_p13, zz_a16, true_and, forall_eq]
          exact br_f (nI_ge hiN (by omega)) (yy_hasJob hiN hN f4 (fun _ => br_f (by decide) (br_t p (hY post hp))) (fun z1 z2 => hj.elim (fun z => absurd z z1) (fun z => absurd z z2)))
      · obtain ⟨xst', xmi', yf', h', hX, hY⟩ := ih (i + 1) _ _ _ (by omega) (tf_u10 (v := xmi i + 1) hiN (tf_u4 (v := 0) hiN (Or.inl rfl) h))
        refine ⟨xst', xmi', yf', h', fun post hp => ?_, fun post hp => ?_⟩
        · rw [wX_dropLateJobs_2]
          simp (disch := omega) only [nI_0, nI_clamp, zz_in, zz_m4, zz_m6, zz_m14, zz_m16, nI_add, zz_p0, zz_p1, zz_p2, zz_p3, zz_p4, zz_p5, zz_p6, zz_p7, zz_p8, zz_p9, zz_p10, zz_p11, zz_p12, zz_p13, zz_a16, true_and, forall_eq]
          exact br_f (nI_ge hiN (by omega)) (br_f q (br_f p (hX post hp)))
        · rw [wY_tick_694]
          simp (disch := omega) only [f7, f10, pk_un, nI_clamp, zz_in, zz_m4, zz_m6, zz_m14, zz_m16, nI_add, zz_p0, zz_p1, zz_p2, zz_p3, zz_p4, zz_p5, zz_p6, zz_p7, zz_p8, zz_p9, zz_p10, zz_p11, zz_p12, zz_p13, zz_a16, true_and, forall_eq]
          exact br_f (nI_ge hiN (by omega)) (yy_hasJob hiN hN f4 (fun _ => br_f (by decide) (br_f p (hY post hp))) (fun z1 z2 => hj.elim (fun z => absurd z z1) (fun z => absurd z z2)))
end
section
/-! what follows the work of a tick: record, time, settling -/
variable {mT mS R mQ T N M K : Nat} {op : Int32} {xtr xcp xlo xpe xre xwc xus xst xln xdn xdu xnx xco xmi xwo xbl xsc xrs xun xfr xto xbu xsp xle xsd xex xql xqu xqt xfa : Nat → Int32} {yf ysec ysv yqu yqt ylg yfi : Nat → Int32}
theorem zz_and63 (n : Nat) (h : n < 2 ^ 31) : nI n &&& 63 = nI (n % 64) := pk_andN (by omega) 6 (by decide)
theorem zz_and31 (n : Nat) (h : n < 2 ^ 31) : nI n &&& 31 = nI (n % 32) := pk_andN (by omega) 5 (by decide)
theorem zz_s16 (s : Nat) : nI (16 + s) - 16 = nI s := by
  have h := pk_sub (a := 16 + s) (b := 16) (by omega)
  rw [show 16 + s - 16 = s from by omega] at h
  exact h
theorem rl_step {r : Int32} (h : zz_RL T xtr ylg) : zz_RL (T + 1) (upd xtr (T % 64) r) (upd ylg T r) := by
  intro j h1 h2
  by_cases e : j = T
  · subst e
    rw [pk_us, pk_us]
  · rw [pk_un (by omega), pk_un e]
    exact h j (by omega) (by omega)
theorem xx_t31_idle {post : SX → Prop} (hT : T < 10000) (h : wX_tick_80 post (nI mT) (nI mS) (nI R) (nI mQ) (nI (T + 1)) (nI N) op (nI M) (nI K) (upd xtr (T % 64) (-9)) xcp xlo xpe xre xwc xus xst xln xdn xdu xnx xco xmi xwo xbl xsc xrs xun xfr xto xbu xsp xle xsd xex xql xqu xqt xfa) : wX_tick_31 post (-9) (nI mT) (nI mS) (nI R) (nI mQ) (nI T) (nI N) op (nI M) (nI K) xtr xcp xlo xpe xre xwc xus xst xln xdn xdu xnx xco xmi xwo xbl xsc xrs xun xfr xto xbu xsp xle xsd xex xql xqu xqt xfa := by
  simp (disch := omega) only [wX_tick_31, zz_and63, nI_clamp, zz_in, zz_m4, zz_m6, zz_m14, zz_m16, nI_add, zz_p0, zz_p1, zz_p2, zz_p3, zz_p4, zz_p5, zz_p6, zz_p7, zz_p8, zz_p9, zz_p10, zz_p11, zz_p12, zz_p13, zz_a16, true_and, forall_eq]
  exact (br_t (by decide) (br_t (by decide) h))
theorem yy_t531_idle {post : SY → Prop} (hT : T < 10000) (h : ∃ n694 : Nat, wY_tick_694 post (nI mT) (nI mS) (nI R) (nI mQ) (nI (T + 1)) (nI N) op (nI M) (nI K) n694 0 yf ysec ysv yqu yqt xcp xlo (upd ylg T (-9)) yfi) : wY_tick_531 post (-9) (nI mT) (nI mS) (nI R) (nI mQ) (nI T) (nI N) op (nI M) (nI K) yf ysec ysv yqu yqt xcp xlo ylg yfi := by
  simp (disch := omega) only [wY_tick_531, nI_clamp, zz_in, zz_m4, zz_m6, zz_m14, zz_m16, nI_add, zz_p0, zz_p1, zz_p2, zz_p3, zz_p4, zz_p5, zz_p6, zz_p7, zz_p8, zz_p9, zz_p10, zz_p11, zz_p12, zz_p13, zz_a16, true_and, forall_eq]
  exact br_t (by decide) (br_t (by decide) h)
theorem ph_task {t : Nat} (ht : t < N) (hN : N ≤ 6) (hT : T < 10000) (h : zz_TF N op xpe xre xwc xus xst xln xdn xdu xnx xco xmi xwo xbl xsc yf) : ∃ (xst' xco' xwo' yf' : Nat → Int32), zz_TF N op xpe xre xwc xus xst' xln xdn xdu xnx xco' xmi xwo' xbl xsc yf' ∧ (∀ post : SX → Prop, wX_tick_80 post (nI mT) (nI mS) (nI R) (nI mQ) (nI (T + 1)) (nI N) op (nI M) (nI K) (upd xtr (T % 64) (nI t)) xcp xlo xpe xre xwc xus xst' xln xdn xdu xnx xco' xmi xwo' xbl xsc xrs xun xfr xto xbu xsp xle xsd xex xql xqu xqt xfa → wX_tick_31 post (nI t) (nI mT) (nI mS) (nI R) (nI mQ) (nI T) (nI N) op (nI M) (nI K) xtr xcp xlo xpe xre xwc xus xst xln xdn xdu xnx xco xmi xwo xbl xsc xrs xun xfr xto xbu xsp xle xsd xex xql xqu xqt xfa) ∧ (∀ post : SY → Prop, (∃ n694 : Nat, wY_tick_694 post (nI mT) (nI mS) (nI R) (nI mQ) (nI (T + 1)) (nI N) op (nI M) (nI K) n694 0 yf' ysec ysv yqu yqt xcp xlo (upd ylg T (nI t)) yfi) → wY_tick_531 post (nI t) (nI mT) (nI mS) (nI R) (nI mQ) (nI T) (nI N) op (nI M) (nI K) yf ysec ysv yqu yqt xcp xlo ylg yfi) := by
  have f1 := tf_1 h
  have f5 := tf_5 h
  have f6 := tf_6 h
  have f7 := tf_7 h
  have f9 := tf_9 h
  have f11 := tf_11 h
  have b16 : nI t < 16 := nI_lt (b := 16) (by omega) (by decide)
  have hpos : ¬ nI t < 0 := nI_pos (by omega)
  by_cases q : xdn t = xln t
  · have hA := tf_u9 (v := xco t + 1) ht (tf_u4 (v := 0) ht (Or.inl rfl) h)
    by_cases p : nI (T + 1) - (xdu t - xre t) ≤ xwo t
    · refine ⟨_, _, _, _, hA, fun post hp => ?_, fun post hp => ?_⟩
      · simp (disch := omega) only [wX_tick_31, zz_and63, wpX_settleJob, nI_clamp, zz_in, zz_m4, zz_m6, zz_m14, zz_m16, nI_add, zz_p0, zz_p1, zz_p2, zz_p3, zz_p4, zz_p5, zz_p6, zz_p7, zz_p8, zz_p9, zz_p10, zz_p11, zz_p12, zz_p13, zz_a16, true_and, forall_eq]
        exact (br_t b16 (br_f hpos (br_t q (br_t p hp))))
      · simp (disch := omega) only [wY_tick_531, f1, f5, f6, f7, f9, f11, pk_un, nI_clamp, zz_in, zz_m4, zz_m6, zz_m14, zz_m16, nI_add, zz_p0, zz_p1, zz_p2, zz_p3, zz_p4, zz_p5, zz_p6, zz_p7, zz_p8, zz_p9, zz_p10, zz_p11, zz_p12, zz_p13, zz_a16, true_and, forall_eq]
        exact br_t b16 (br_f hpos (br_t q (br_t p hp)))
    · refine ⟨_, _, _, _, tf_u11 (v := nI (T + 1) - (xdu t - xre t)) ht hA, fun post hp => ?_, fun post hp => ?_⟩
      · simp (disch := omega) only [wX_tick_31, zz_and63, wpX_settleJob, nI_clamp, zz_in, zz_m4, zz_m6, zz_m14, zz_m16, nI_add, zz_p0, zz_p1, zz_p2, zz_p3, zz_p4, zz_p5, zz_p6, zz_p7, zz_p8, zz_p9, zz_p10, zz_p11, zz_p12, zz_p13, zz_a16, true_and, forall_eq]
        exact (br_t b16 (br_f hpos (br_t q (br_f p hp))))
      · simp (disch := omega) only [wY_tick_531, f1, f5, f6, f7, f9, f11, pk_un, nI_clamp, zz_in, zz_m4, zz_m6, zz_m14, zz_m16, nI_add, zz_p0, zz_p1, zz_p2, zz_p3, zz_p4, zz_p5, zz_p6, zz_p7, zz_p8, zz_p9, zz_p10, zz_p11, zz_p12, zz_p13, zz_a16, true_and, forall_eq]
        exact br_t b16 (br_f hpos (br_t q (br_f p hp)))
  · refine ⟨xst, xco, xwo, yf, h, fun post hp => ?_, fun post hp => ?_⟩
    · simp (disch := omega) only [wX_tick_31, zz_and63, wpX_settleJob, nI_clamp, zz_in, zz_m4, zz_m6, zz_m14, zz_m16, nI_add, zz_p0, zz_p1, zz_p2, zz_p3, zz_p4, zz_p5, zz_p6, zz_p7, zz_p8, zz_p9, zz_p10, zz_p11, zz_p12, zz_p13, zz_a16, true_and, forall_eq]
      exact (br_t b16 (br_f hpos (br_f q hp)))
    · simp (disch := omega) only [wY_tick_531, f1, f5, f6, f7, f9, f11, pk_un, nI_clamp, zz_in, zz_m4, zz_m6, zz_m14, zz_m16, nI_add, zz_p0, zz_p1, zz_p2, zz_p3, zz_p4, zz_p5, zz_p6, zz_p7, zz_p8, zz_p9, zz_p10, zz_p11, zz_p12, zz_p13, zz_a16, true_and, forall_eq]
      exact br_t b16 (br_f hpos (br_f q hp))
/-! the queue of a server moves up -/
def zz_shift (a : Nat → Int32) (b c : Nat) : Nat → Int32 := fun j => if b ≤ j ∧ j < b + c then a (j + 1) else a j
theorem zz_shift_0 (a : Nat → Int32) (b : Nat) : zz_shift a b 0 = a := by
  funext j
  exact if_neg (by omega)
theorem zz_shift_s (a : Nat → Int32) (b i : Nat) : upd (zz_shift a b i) (b + i) (zz_shift a b i (b + i + 1)) = zz_shift a b (i + 1) := by
  funext j
  have e1 : zz_shift a b i (b + i + 1) = a (b + i + 1) := if_neg (by omega)
  rw [e1]
  by_cases e : j = b + i
  · subst e
    rw [pk_us]
    exact (if_pos (by omega)).symm
  · rw [pk_un e]
    by_cases q : b ≤ j ∧ j < b + i
    · exact (if_pos q).trans (if_pos (by omega)).symm
    · exact (if_neg q).trans (if_neg (by omega)).symm
theorem xx_shift {post : SX → Prop} {s c : Nat} (hs : s < 3) (hc : c ≤ 5) (h : post (nI mT, nI mS, nI R, nI mQ, nI T, nI N, op, nI M, nI K, xtr, xcp, xlo, xpe, xre, xwc, xus, xst, xln, xdn, xdu, xnx, xco, xmi, xwo, xbl, xsc, xrs, xun, xfr, xto, xbu, xsp, xle, xsd, xex, upd xql s (nI c), zz_shift xqu (6 * s) c, zz_shift xqt (6 * s) c, xfa)) : ∀ (d i n : Nat), i + d = c → d < n → wX_finishFirst_49 post (nI s) (nI (6 * s)) (nI c) (nI mT) (nI mS) (nI R) (nI mQ) (nI T) (nI N) op (nI M) (nI K) n (nI i) xtr xcp xlo xpe xre xwc xus xst xln xdn xdu xnx xco xmi xwo xbl xsc xrs xun xfr xto xbu xsp xle xsd xex xql (zz_shift xqu (6 * s) i) (zz_shift xqt (6 * s) i) xfa := by
  intro d
  induction d with
  | zero =>
    intro i n hi hn
    obtain ⟨n, rfl⟩ : ∃ m, n = m + 1 := ⟨n - 1, by omega⟩
    have e : i = c := by omega
    subst e
    rw [wX_finishFirst_49]
    simp (disch := omega) only [nI_0, nI_clamp, zz_in, zz_m4, zz_m6, zz_m14, zz_m16, nI_add, zz_p0, zz_p1, zz_p2, zz_p3, zz_p4, zz_p5, zz_p6, zz_p7, zz_p8, zz_p9, zz_p10, zz_p11, zz_p12, zz_p13, zz_a16, true_and, forall_eq]
    exact br_t (Int32.le_refl _) h
  | succ d ih =>
    intro i n hi hn
    obtain ⟨n, rfl⟩ : ∃ m, n = m + 1 := ⟨n - 1, by omega⟩
    have hw := ih (i + 1) n (by omega) (by omega)
    rw [← zz_shift_s xqu, ← zz_shift_s xqt] at hw
    rw [wX_finishFirst_49]
    simp (disch := omega) only [nI_0, nI_clamp, zz_in, zz_m4, zz_m6, zz_m14, zz_m16, nI_add, zz_p0, zz_p1, zz_p2, zz_p3, zz_p4, zz_p5, zz_p6, zz_p7, zz_p8, zz_p9, zz_p10, zz_p11, zz_p12, zz_p13, zz_a16, true_and, forall_eq]
    exact br_f (nI_ge (by omega) (by omega)) hw
theorem yy_shift {post : SY → Prop} {s : Nat} {v : Int32} (hs : s < 3) (hv : ysv (6 * s + 4) - 1 = v) (h : wY_afterServer_79 post (nI (6 * s)) (nI mT) (nI mS) (nI R) (nI mQ) (nI T) (nI N) op (nI M) (nI K) yf ysec (upd ysv (6 * s + 4) v) (zz_shift yqu (6 * s) 5) (zz_shift yqt (6 * s) 5) xcp xlo ylg yfi) : ∀ (d i n : Nat), i + d = 5 → d < n → wY_afterServer_26 post (nI (6 * s)) (nI mT) (nI mS) (nI R) (nI mQ) (nI T) (nI N) op (nI M) (nI K) n (nI (6 * s + i)) yf ysec ysv (zz_shift yqu (6 * s) i) (zz_shift yqt (6 * s) i) xcp xlo ylg yfi := by
  intro d
  induction d with
  | zero =>
    intro i n hi hn
    obtain ⟨n, rfl⟩ : ∃ m, n = m + 1 := ⟨n - 1, by omega⟩
    have e : i = 5 := by omega
    subst e
    rw [wY_afterServer_26]
    simp (disch := omega) only [hv, nI_clamp, zz_in, zz_m4, zz_m6, zz_m14, zz_m16, nI_add, zz_p0, zz_p1, zz_p2, zz_p3, zz_p4, zz_p5, zz_p6, zz_p7, zz_p8, zz_p9, zz_p10, zz_p11, zz_p12, zz_p13, zz_a16, true_and, forall_eq]
    exact br_t (Int32.le_refl _) h
  | succ d ih =>
    intro i n hi hn
    obtain ⟨n, rfl⟩ : ∃ m, n = m + 1 := ⟨n - 1, by omega⟩
    have hw := ih (i + 1) n (by omega) (by omega)
    rw [← zz_shift_s yqu, ← zz_shift_s yqt] at hw
    rw [wY_afterServer_26]
    simp (disch := omega) only [nI_0, nI_clamp, zz_in, zz_m4, zz_m6, zz_m14, zz_m16, nI_add, zz_p0, zz_p1, zz_p2, zz_p3, zz_p4, zz_p5, zz_p6, zz_p7, zz_p8, zz_p9, zz_p10, zz_p11, zz_p12, zz_p13, zz_a16, true_and, forall_eq]
    exact br_f (nI_ge (by omega) (by omega)) hw
/-- the budget of a server -/
theorem ph_budget {s : Nat} (hs : s < M) (hM : M ≤ 3) (h : zz_RV M xbu xsp xle xsd xql xex ysv) : ∃ (xle' xsd' xex' ysv' : Nat → Int32), zz_RV M xbu xsp xle' xsd' xql xex' ysv' ∧ (∀ post : SX → Prop, post (nI mT, nI mS, nI R, nI mQ, nI T, nI N, op, nI M, nI K, xtr, xcp, xlo, xpe, xre, xwc, xus, xst, xln, xdn, xdu, xnx, xco, xmi, xwo, xbl, xsc, xrs, xun, xfr, xto, xbu, xsp, xle', xsd', xex', xql, xqu, xqt, xfa) → wX_settleServer_17 post (nI s) (nI mT) (nI mS) (nI R) (nI mQ) (nI T) (nI N) op (nI M) (nI K) xtr xcp xlo xpe xre xwc xus xst xln xdn xdu xnx xco xmi xwo xbl xsc xrs xun xfr xto xbu xsp xle xsd xex xql xqu xqt xfa) ∧ (∀ post : SY → Prop, post (nI mT, nI mS, nI R, nI mQ, nI T, nI N, op, nI M, nI K, yf, ysec, ysv', yqu, yqt, xcp, xlo, ylg, yfi) → wY_afterServer_79 post (nI (6 * s)) (nI mT) (nI mS) (nI R) (nI mQ) (nI T) (nI N) op (nI M) (nI K) yf ysec ysv yqu yqt xcp xlo ylg yfi) := by
  have v0 := rv_0 h
  have v1 := rv_1 h
  have v2 := rv_2 h
  have v3 := rv_3 h
  have v5 := rv_5 h
  by_cases q : xle s = 0
  · refine ⟨_, _, _, _, rv_u5 (v := xex s + 1) hs (rv_u3 (v := xsd s + xsp s) hs (rv_u2 (v := xbu s) hs h)), fun post hp => ?_, fun post hp => ?_⟩
    · simp (disch := omega) only [wX_settleServer_17, nI_clamp, zz_in, zz_m4, zz_m6, zz_m14, zz_m16, nI_add, zz_p0, zz_p1, zz_p2, zz_p3, zz_p4, zz_p5, zz_p6, zz_p7, zz_p8, zz_p9, zz_p10, zz_p11, zz_p12, zz_p13, zz_a16, true_and, forall_eq]
      exact br_t q hp
    · simp (disch := omega) only [wY_afterServer_79, v0, v1, v2, v3, v5, pk_un, nI_clamp, zz_in, zz_m4, zz_m6, zz_m14, zz_m16, nI_add, zz_p0, zz_p1, zz_p2, zz_p3, zz_p4, zz_p5, zz_p6, zz_p7, zz_p8, zz_p9, zz_p10, zz_p11, zz_p12, zz_p13, zz_a16, true_and, forall_eq]
      exact br_t q hp
  · refine ⟨xle, xsd, xex, ysv, h, fun post hp => ?_, fun post hp => ?_⟩
    · simp (disch := omega) only [wX_settleServer_17, nI_clamp, zz_in, zz_m4, zz_m6, zz_m14, zz_m16, nI_add, zz_p0, zz_p1, zz_p2, zz_p3, zz_p4, zz_p5, zz_p6, zz_p7, zz_p8, zz_p9, zz_p10, zz_p11, zz_p12, zz_p13, zz_a16, true_and, forall_eq]
      exact br_f q hp
    · simp (disch := omega) only [wY_afterServer_79, v0, v1, v2, v3, v5, pk_un, nI_clamp, zz_in, zz_m4, zz_m6, zz_m14, zz_m16, nI_add, zz_p0, zz_p1, zz_p2, zz_p3, zz_p4, zz_p5, zz_p6, zz_p7, zz_p8, zz_p9, zz_p10, zz_p11, zz_p12, zz_p13, zz_a16, true_and, forall_eq]
      exact br_f q hp
theorem zz_lt32 {j K : Nat} (hj : j < 2 ^ 30) (hK : K < 2 ^ 30) : nI j < nI K - 32 ↔ j + 32 < K := by
  rw [Int32.lt_iff_toInt_lt, nI_toInt (by omega), show (nI K - 32).toInt = (K : Int) - 32 from pk_sub_toInt (b := 32) hK (by decide)]
  omega
theorem rq_shift {s l : Nat} (hs : s < 3) (hl : xql s = nI (l + 1)) (hl5 : l ≤ 5) (hm : mQ ≤ 6) (h : zz_RQ mQ K xql xqu xqt yqu yqt) : zz_RQ mQ K (upd xql s (nI l)) (zz_shift xqu (6 * s) l) (zz_shift xqt (6 * s) l) (zz_shift yqu (6 * s) 5) (zz_shift yqt (6 * s) 5) := by
  intro s' hs'
  by_cases e : s' = s
  · subst e
    obtain ⟨h1, h2⟩ := h s' hs'
    rw [hl] at h1 h2
    have hz : zc (nI (l + 1)) = l + 1 := zc_nI (by omega)
    rw [pk_us, zc_nI (by omega)]
    have h12 := h1.2
    rw [hz] at h12 h2
    refine ⟨zz_nat_nI (by omega) (by omega), fun p hp => ?_⟩
    have e1 : ∀ a : Nat → Int32, ∀ c, l ≤ c → zz_shift a (6 * s') c (6 * s' + p) = a (6 * s' + (p + 1)) := fun a c hc => if_pos (by omega)
    rw [e1 _ _ (Nat.le_refl _), e1 _ _ (Nat.le_refl _), e1 _ _ hl5, e1 _ _ hl5]
    exact h2 (p + 1) (by omega)
  · rw [pk_un e]
    obtain ⟨h1, h2⟩ := h s' hs'
    refine ⟨h1, fun p hp => ?_⟩
    have h12 := h1.2
    have hp6 : p < 6 := by omega
    have e1 : ∀ a : Nat → Int32, ∀ c, c ≤ 5 → zz_shift a (6 * s) c (6 * s' + p) = a (6 * s' + p) := fun a c hc => if_neg (by omega)
    rw [e1 _ _ hl5, e1 _ _ hl5, e1 _ _ (Nat.le_refl _), e1 _ _ (Nat.le_refl _)]
    exact h2 p hp
theorem rn_old {j : Nat} (hT : T < 10000) (hj : j + 32 < K) (h : zz_RN K xfa yfi) : zz_RN K xfa (upd yfi j (nI (T + 1))) := by
  refine ⟨fun i h1 h2 => ?_, fun i h1 => ?_⟩
  · rw [pk_un (by omega)]
    exact h.1 i h1 h2
  · rw [pk_un (by omega)]
    exact h.2 i h1
theorem rn_new {j : Nat} (hT : T < 10000) (hj : K ≤ j + 32) (hK : j < K) (h : zz_RN K xfa yfi) : zz_RN K (upd xfa (j % 32) (nI (T + 1))) (upd yfi j (nI (T + 1))) := by
  refine ⟨fun i h1 h2 => ?_, fun i h1 => ?_⟩
  · by_cases e : i = j
    · subst e
      rw [pk_us, pk_us, if_neg (nI_ne0 (by omega) (by omega))]
    · rw [pk_un (by omega), pk_un e]
      exact h.1 i h1 h2
  · rw [pk_un (by omega)]
    exact h.2 i h1
/-- the head of a queue is done; T is the time before the tick -/
theorem ph_finish {s l : Nat} (hs : s < M) (hM : M ≤ 3) (hT : T < 10000) (hm : mQ ≤ 6) (hK : K ≤ 2564) (hl5 : l ≤ 5) (hl : xql s = nI (l + 1)) (hV : zz_RV M xbu xsp xle xsd xql xex ysv) (hQ : zz_RQ mQ K xql xqu xqt yqu yqt) (hN : zz_RN K xfa yfi) : ∃ (xql' xqu' xqt' xfa' ysv' yqu' yqt' yfi' : Nat → Int32), zz_RV M xbu xsp xle xsd xql' xex ysv' ∧ zz_RQ mQ K xql' xqu' xqt' yqu' yqt' ∧ zz_RN K xfa' yfi' ∧ (∀ post : SX → Prop, post (nI mT, nI mS, nI R, nI mQ, nI (T + 1), nI N, op, nI M, nI K, xtr, xcp, xlo, xpe, xre, xwc, xus, xst, xln, xdn, xdu, xnx, xco, xmi, xwo, xbl, xsc, xrs, xun, xfr, xto, xbu, xsp, xle, xsd, xex, xql', xqu', xqt', xfa') → wpX_finishFirst post (nI mT, nI mS, nI R, nI mQ, nI (T + 1), nI N, op, nI M, nI K, xtr, xcp, xlo, xpe, xre, xwc, xus, xst, xln, xdn, xdu, xnx, xco, xmi, xwo, xbl, xsc, xrs, xun, xfr, xto, xbu, xsp, xle, xsd, xex, xql, xqu, xqt, xfa) (nI s)) ∧ (∀ post : SY → Prop, wY_afterServer_79 post (nI (6 * s)) (nI mT) (nI mS) (nI R) (nI mQ) (nI (T + 1)) (nI N) op (nI M) (nI K) yf ysec ysv' yqu' yqt' xcp xlo ylg yfi' → vp_in (yqt (6 * s)) 10100 ∧ ∃ n26 : Nat, wY_afterServer_26 post (nI (6 * s)) (nI mT) (nI mS) (nI R) (nI mQ) (nI (T + 1)) (nI N) op (nI M) (nI K) n26 (nI (6 * s)) yf ysec ysv yqu yqt xcp xlo ylg (upd yfi (yqt (6 * s)).toNatClampNeg (nI (T + 1)))) := by
  have hs3 : s < 3 := by omega
  obtain ⟨q1, q2⟩ := hQ s hs3
  have ez : zc (xql s) = l + 1 := by rw [hl]; exact zc_nI (by omega)
  rw [ez] at q2
  obtain ⟨g1, g2, j, hj, ej⟩ := q2 0 (by omega)
  rw [Nat.add_zero] at g1 g2 ej
  have ev : ysv (6 * s + 4) - 1 = nI l := by rw [rv_4 hV s hs3, hl]; exact nI_pred l
  have hV' := rv_u4 (v := nI l) hs hV
  have hQ' := rq_shift hs3 hl hl5 hm hQ
  have hY : ∀ post : SY → Prop, wY_afterServer_79 post (nI (6 * s)) (nI mT) (nI mS) (nI R) (nI mQ) (nI (T + 1)) (nI N) op (nI M) (nI K) yf ysec (upd ysv (6 * s + 4) (nI l)) (zz_shift yqu (6 * s) 5) (zz_shift yqt (6 * s) 5) xcp xlo ylg (upd yfi j (nI (T + 1))) → vp_in (yqt (6 * s)) 10100 ∧ ∃ n26 : Nat, wY_afterServer_26 post (nI (6 * s)) (nI mT) (nI mS) (nI R) (nI mQ) (nI (T + 1)) (nI N) op (nI M) (nI K) n26 (nI (6 * s)) yf ysec ysv yqu yqt xcp xlo ylg (upd yfi (yqt (6 * s)).toNatClampNeg (nI (T + 1))) := by
    intro post hp
    have w := yy_shift hs3 ev hp 5 0 6 rfl (by decide)
    rw [zz_shift_0, zz_shift_0] at w
    rw [g2, ej, nI_clamp (by omega)]
    exact ⟨vp_in_nI (by omega) (by omega), 6, w⟩
  by_cases o : j + 32 < K
  · refine ⟨_, _, _, xfa, _, _, _, _, hV', hQ', rn_old hT o hN, fun post hp => ?_, hY⟩
    have w := xx_shift hs3 hl5 hp l 0 (l + 1) (Nat.zero_add _) (Nat.lt_succ_self _)
    rw [zz_shift_0, zz_shift_0] at w
    simp (disch := omega) only [wpX_finishFirst, wX_finishFirst_36, ej, hl, nI_pred, nI_clamp, zz_in, zz_m4, zz_m6, zz_m14, zz_m16, nI_add, zz_p0, zz_p1, zz_p2, zz_p3, zz_p4, zz_p5, zz_p6, zz_p7, zz_p8, zz_p9, zz_p10, zz_p11, zz_p12, zz_p13, zz_a16, true_and, forall_eq]
    exact br_t ((zz_lt32 (by omega) (by omega)).mpr o) ⟨_, w⟩
  · refine ⟨_, _, _, _, _, _, _, _, hV', hQ', rn_new hT (by omega) hj hN, fun post hp => ?_, hY⟩
    have w := xx_shift hs3 hl5 hp l 0 (l + 1) (Nat.zero_add _) (Nat.lt_succ_self _)
    rw [zz_shift_0, zz_shift_0] at w
    simp (disch := omega) only [wpX_finishFirst, wX_finishFirst_36, ej, hl, nI_pred, zz_and31, nI_clamp, zz_in, zz_m4, zz_m6, zz_m14, zz_m16, nI_add, zz_p0, zz_p1, zz_p2, zz_p3, zz_p4, zz_p5, zz_p6, zz_p7, zz_p8, zz_p9, zz_p10, zz_p11, zz_p12, zz_p13, zz_a16, true_and, forall_eq]
    exact br_f (fun z => o ((zz_lt32 (by omega) (by omega)).mp z)) ⟨_, w⟩
theorem ph_server {s : Nat} (hs : s < M) (hM : M ≤ 3) (hT : T < 10000) (hm : mQ ≤ 6) (hK : K ≤ 2564) (hl : ¬ xql s ≤ 0) (hV : zz_RV M xbu xsp xle xsd xql xex ysv) (hQ : zz_RQ mQ K xql xqu xqt yqu yqt) (hN : zz_RN K xfa yfi) : ∃ (xle' xsd' xex' xql' xqu' xqt' xfa' ysv' yqu' yqt' yfi' : Nat → Int32), zz_RV M xbu xsp xle' xsd' xql' xex' ysv' ∧ zz_RQ mQ K xql' xqu' xqt' yqu' yqt' ∧ zz_RN K xfa' yfi' ∧ (∀ post : SX → Prop, wX_tick_80 post (nI mT) (nI mS) (nI R) (nI mQ) (nI (T + 1)) (nI N) op (nI M) (nI K) (upd xtr (T % 64) (nI (16 + s))) xcp xlo xpe xre xwc xus xst xln xdn xdu xnx xco xmi xwo xbl xsc xrs xun xfr xto xbu xsp xle' xsd' xex' xql' xqu' xqt' xfa' → wX_tick_31 post (nI (16 + s)) (nI mT) (nI mS) (nI R) (nI mQ) (nI T) (nI N) op (nI M) (nI K) xtr xcp xlo xpe xre xwc xus xst xln xdn xdu xnx xco xmi xwo xbl xsc xrs xun xfr xto xbu xsp xle xsd xex xql xqu xqt xfa) ∧ (∀ post : SY → Prop, (∃ n694 : Nat, wY_tick_694 post (nI mT) (nI mS) (nI R) (nI mQ) (nI (T + 1)) (nI N) op (nI M) (nI K) n694 0 yf ysec ysv' yqu' yqt' xcp xlo (upd ylg T (nI (16 + s))) yfi') → wY_tick_531 post (nI (16 + s)) (nI mT) (nI mS) (nI R) (nI mQ) (nI T) (nI N) op (nI M) (nI K) yf ysec ysv yqu yqt xcp xlo ylg yfi) := by
  have hs3 : s < 3 := by omega
  obtain ⟨c, hc, ec⟩ := zz_nat_ex (hQ s hs3).1
  have hc0 : 0 < c := by
    rcases Nat.eq_zero_or_pos c with z | z
    · subst z
      rw [ec] at hl
      exact absurd (by decide) hl
    · exact z
  obtain ⟨l, rfl⟩ : ∃ l, c = l + 1 := ⟨c - 1, by omega⟩
  have b16 : ¬ nI (16 + s) < 16 := nI_nlt (b := 16) (by omega) (by omega)
  have g1 : yqu (6 * s) = xqu (6 * s) := ((hQ s hs3).2 0 (by rw [ec, zc_nI (by omega)]; omega)).1
  by_cases q : xqu (6 * s) = 0
  · obtain ⟨xql', xqu', xqt', xfa', ysv1, yqu', yqt', yfi', hV1, hQ1, hN1, hX1, hY1⟩ := ph_finish (mT := mT) (mS := mS) (R := R) (N := N) (op := op) (xtr := upd xtr (T % 64) (nI (16 + s))) (xcp := xcp) (xlo := xlo) (xpe := xpe) (xre := xre) (xwc := xwc) (xus := xus) (xst := xst) (xln := xln) (xdn := xdn) (xdu := xdu) (xnx := xnx) (xco := xco) (xmi := xmi) (xwo := xwo) (xbl := xbl) (xsc := xsc) (xrs := xrs) (xun := xun) (xfr := xfr) (xto := xto) (yf := yf) (ysec := ysec) (ylg := upd ylg T (nI (16 + s))) hs hM hT hm hK (by omega) ec hV hQ hN
    obtain ⟨xle', xsd', xex', ysv', hV2, hX2, hY2⟩ := ph_budget (mT := mT) (mS := mS) (R := R) (mQ := mQ) (T := T + 1) (N := N) (K := K) (op := op) (xtr := upd xtr (T % 64) (nI (16 + s))) (xcp := xcp) (xlo := xlo) (xpe := xpe) (xre := xre) (xwc := xwc) (xus := xus) (xst := xst) (xln := xln) (xdn := xdn) (xdu := xdu) (xnx := xnx) (xco := xco) (xmi := xmi) (xwo := xwo) (xbl := xbl) (xsc := xsc) (xrs := xrs) (xun := xun) (xfr := xfr) (xto := xto) (xqu := xqu') (xqt := xqt') (xfa := xfa') (yf := yf) (ysec := ysec) (yqu := yqu') (yqt := yqt') (ylg := upd ylg T (nI (16 + s))) (yfi := yfi') hs hM hV1
    refine ⟨xle', xsd', xex', xql', xqu', xqt', xfa', ysv', yqu', yqt', yfi', hV2, hQ1, hN1, fun post hp => ?_, fun post hp => ?_⟩
    · simp (disch := omega) only [wX_tick_31, zz_and63, zz_s16, wpX_settleServer, nI_clamp, zz_in, zz_m4, zz_m6, zz_m14, zz_m16, nI_add, zz_p0, zz_p1, zz_p2, zz_p3, zz_p4, zz_p5, zz_p6, zz_p7, zz_p8, zz_p9, zz_p10, zz_p11, zz_p12, zz_p13, zz_a16, true_and, forall_eq]
      exact (br_f b16 (br_t q (hX1 _ (hX2 _ hp))))
    · simp (disch := omega) only [wY_tick_531, zz_s16, wpY_afterServer, g1, nI_clamp, zz_in, zz_m4, zz_m6, zz_m14, zz_m16, nI_add, zz_p0, zz_p1, zz_p2, zz_p3, zz_p4, zz_p5, zz_p6, zz_p7, zz_p8, zz_p9, zz_p10, zz_p11, zz_p12, zz_p13, zz_a16, true_and, forall_eq]
      exact br_f b16 (br_t q (hY1 _ (hY2 _ hp)))
  · obtain ⟨xle', xsd', xex', ysv', hV2, hX2, hY2⟩ := ph_budget (mT := mT) (mS := mS) (R := R) (mQ := mQ) (T := T + 1) (N := N) (K := K) (op := op) (xtr := upd xtr (T % 64) (nI (16 + s))) (xcp := xcp) (xlo := xlo) (xpe := xpe) (xre := xre) (xwc := xwc) (xus := xus) (xst := xst) (xln := xln) (xdn := xdn) (xdu := xdu) (xnx := xnx) (xco := xco) (xmi := xmi) (xwo := xwo) (xbl := xbl) (xsc := xsc) (xrs := xrs) (xun := xun) (xfr := xfr) (xto := xto) (xqu := xqu) (xqt := xqt) (xfa := xfa) (yf := yf) (ysec := ysec) (yqu := yqu) (yqt := yqt) (ylg := upd ylg T (nI (16 + s))) (yfi := yfi) hs hM hV
    refine ⟨xle', xsd', xex', xql, xqu, xqt, xfa, ysv', yqu, yqt, yfi, hV2, hQ, hN, fun post hp => ?_, fun post hp => ?_⟩
    · simp (disch := omega) only [wX_tick_31, zz_and63, zz_s16, wpX_settleServer, nI_clamp, zz_in, zz_m4, zz_m6, zz_m14, zz_m16, nI_add, zz_p0, zz_p1, zz_p2, zz_p3, zz_p4, zz_p5, zz_p6, zz_p7, zz_p8, zz_p9, zz_p10, zz_p11, zz_p12, zz_p13, zz_a16, true_and, forall_eq]
      exact (br_f b16 (br_f q (hX2 _ hp)))
    · simp (disch := omega) only [wY_tick_531, zz_s16, wpY_afterServer, g1, nI_clamp, zz_in, zz_m4, zz_m6, zz_m14, zz_m16, nI_add, zz_p0, zz_p1, zz_p2, zz_p3, zz_p4, zz_p5, zz_p6, zz_p7, zz_p8, zz_p9, zz_p10, zz_p11, zz_p12, zz_p13, zz_a16, true_and, forall_eq]
      exact br_f b16 (br_f q (hY2 _ hp))
end
section
/-! the work of a tick -/
variable {mT mS R mQ T N M K : Nat} {op : Int32} {xtr xcp xlo xpe xre xwc xus xst xln xdn xdu xnx xco xmi xwo xbl xsc xrs xun xfr xto xbu xsp xle xsd xex xql xqu xqt xfa : Nat → Int32} {yf ysec ysv yqu yqt ylg yfi : Nat → Int32}
/-- the low water after the work of task t -/
def zz_low (re : Nat → Int32) (r : Nat) (lo : Nat → Int32) : Nat → Int32 := if lo r ≤ re r then lo else upd lo r (re r)
/-- what is left of resource r while task t works -/
def zz_rest (cp st dn sc rs un fr to : Nat → Int32) (N t r : Nat) : Int32 := cp r - zz_sum (fun k => if k = t then zz_ub dn sc rs un fr to (nI r) k else zz_hb st dn sc rs un fr to (nI r) k) N 0
theorem xx_execute {post : SX → Prop} {t : Nat} (ht : t < N) (hN : N ≤ 6) (hR : R ≤ 3) (hsc : ∀ t, t < 6 → zz_nat 4 (xsc t)) (h : post (nI mT, nI mS, nI R, nI mQ, nI T, nI N, op, nI M, nI K, xtr, xcp, zz_fold (zz_low (zz_rest xcp xst xdn xsc xrs xun xfr xto N t)) R 0 xlo, xpe, xre, xwc, xus, xst, xln, upd xdn t (xdn t + 1), xdu, xnx, xco, xmi, xwo, xbl, xsc, xrs, xun, xfr, xto, xbu, xsp, xle, xsd, xex, xql, xqu, xqt, xfa)) : wpX_execute post (nI mT, nI mS, nI R, nI mQ, nI T, nI N, op, nI M, nI K, xtr, xcp, xlo, xpe, xre, xwc, xus, xst, xln, xdn, xdu, xnx, xco, xmi, xwo, xbl, xsc, xrs, xun, xfr, xto, xbu, xsp, xle, xsd, xex, xql, xqu, xqt, xfa) (nI t) := by
  show ∃ n : Nat, wX_execute_2 post (nI t) (nI mT) (nI mS) (nI R) (nI mQ) (nI T) (nI N) op (nI M) (nI K) n 0 xtr xcp xlo xpe xre xwc xus xst xln xdn xdu xnx xco xmi xwo xbl xsc xrs xun xfr xto xbu xsp xle xsd xex xql xqu xqt xfa
  refine ⟨_, zz_loop (fun n i lo => wX_execute_2 post (nI t) (nI mT) (nI mS) (nI R) (nI mQ) (nI T) (nI N) op (nI M) (nI K) n (nI i) xtr xcp lo xpe xre xwc xus xst xln xdn xdu xnx xco xmi xwo xbl xsc xrs xun xfr xto xbu xsp xle xsd xex xql xqu xqt xfa) (zz_low (zz_rest xcp xst xdn xsc xrs xun xfr xto N t)) R (fun lo => post (nI mT, nI mS, nI R, nI mQ, nI T, nI N, op, nI M, nI K, xtr, xcp, lo, xpe, xre, xwc, xus, xst, xln, upd xdn t (xdn t + 1), xdu, xnx, xco, xmi, xwo, xbl, xsc, xrs, xun, xfr, xto, xbu, xsp, xle, xsd, xex, xql, xqu, xqt, xfa)) ?_ ?_ _ 0 xlo _ (Nat.zero_add _) (Nat.lt_succ_self _) h⟩
  · intro n lo hp
    simp (disch := omega) only [wX_execute_2, nI_clamp, zz_in, zz_m4, zz_m6, zz_m14, zz_m16, nI_add, zz_p0, zz_p1, zz_p2, zz_p3, zz_p4, zz_p5, zz_p6, zz_p7, zz_p8, zz_p9, zz_p10, zz_p11, zz_p12, zz_p13, zz_a16, true_and, forall_eq]
    exact br_t (Int32.le_refl _) hp
  · intro n r lo hr hw
    try dsimp only at hw
    unfold zz_low at hw
    simp (disch := omega) only [wX_execute_2, nI_clamp, zz_in, zz_m4, zz_m6, zz_m14, zz_m16, nI_add, zz_p0, zz_p1, zz_p2, zz_p3, zz_p4, zz_p5, zz_p6, zz_p7, zz_p8, zz_p9, zz_p10, zz_p11, zz_p12, zz_p13, zz_a16, true_and, forall_eq]
    refine br_f (nI_ge hr (by omega)) ⟨_, zz_loop (fun m k a => wX_execute_20 post (wX_execute_2 post (nI t) (nI mT) (nI mS) (nI R) (nI mQ) (nI T) (nI N) op (nI M) (nI K) n) (nI t) (nI r) (nI mT) (nI mS) (nI R) (nI mQ) (nI T) (nI N) op (nI M) (nI K) xtr xcp lo xpe xre xwc xus xst xln xdn xdu xnx xco xmi xwo xbl xsc xrs xun xfr xto xbu xsp xle xsd xex xql xqu xqt xfa m a (nI k)) (fun k a => a - (if k = t then zz_ub xdn xsc xrs xun xfr xto (nI r) k else zz_hb xst xdn xsc xrs xun xfr xto (nI r) k)) N (fun a => a = zz_rest xcp xst xdn xsc xrs xun xfr xto N t r) ?_ ?_ _ 0 (xcp r) _ (Nat.zero_add _) (Nat.lt_succ_self _) (zz_fold_sub N 0 (xcp r))⟩
    · intro m a ha
      try dsimp only at ha
      subst ha
      simp (disch := omega) only [wX_execute_20, nI_clamp, zz_in, zz_m4, zz_m6, zz_m14, zz_m16, nI_add, zz_p0, zz_p1, zz_p2, zz_p3, zz_p4, zz_p5, zz_p6, zz_p7, zz_p8, zz_p9, zz_p10, zz_p11, zz_p12, zz_p13, zz_a16, true_and, forall_eq]
      refine br_t (Int32.le_refl _) (br_c (fun q => ?_) (fun q => ?_))
      · rw [if_pos q] at hw; exact hw
      · rw [if_neg q] at hw; exact hw
    · intro m k a hk hw2
      try dsimp only at hw2
      simp (disch := omega) only [wX_execute_20, nI_clamp, zz_in, zz_m4, zz_m6, zz_m14, zz_m16, nI_add, zz_p0, zz_p1, zz_p2, zz_p3, zz_p4, zz_p5, zz_p6, zz_p7, zz_p8, zz_p9, zz_p10, zz_p11, zz_p12, zz_p13, zz_a16, true_and, forall_eq]
      refine br_f (nI_ge hk (by omega)) (br_c (fun e => xx_usedBy (by omega) (hsc k (by omega)) ?_) (fun e => xx_heldBy (by omega) (hsc k (by omega)) ?_))
      · rw [if_pos ((nI_eq (by omega) (by omega)).mp e)] at hw2; exact hw2
      · rw [if_neg (fun z => e (by rw [z]))] at hw2; exact hw2
theorem zz_rest_eq {cp st dn sc rs un fr to : Nat → Int32} {N t r : Nat} (ht : t < N) (hN : N ≤ 6) : cp r - (zz_sum (fun k => if nI k = nI t then 0 else zz_hb st dn sc rs un fr to (nI r) k) N 0 + zz_ub dn sc rs un fr to (nI r) t) = zz_rest cp st dn sc rs un fr to N t r := by
  unfold zz_rest
  have e1 : zz_sum (fun k => if k = t then zz_ub dn sc rs un fr to (nI r) k else zz_hb st dn sc rs un fr to (nI r) k) N 0 = zz_sum (fun k => if k = t then zz_ub dn sc rs un fr to (nI r) t else zz_hb st dn sc rs un fr to (nI r) k) N 0 :=
    zz_sum_congr N 0 (fun j _ _ => by
      by_cases e : j = t
      · rw [if_pos e, if_pos e, e]
      · rw [if_neg e, if_neg e])
  have e2 : zz_sum (fun k => if nI k = nI t then 0 else zz_hb st dn sc rs un fr to (nI r) k) N 0 = zz_sum (fun k => if k = t then 0 else zz_hb st dn sc rs un fr to (nI r) k) N 0 :=
    zz_sum_congr N 0 (fun j _ hj => by
      by_cases e : j = t
      · rw [if_pos e, if_pos (by rw [e])]
      · rw [if_neg e, if_neg (fun z => e ((nI_eq (by omega) (by omega)).mp z))])
  rw [e1, e2, zz_sum_split (u := zz_ub dn sc rs un fr to (nI r) t) (h := fun k => zz_hb st dn sc rs un fr to (nI r) k) N 0 (Nat.zero_le _) (by omega)]
theorem yy_execute {post : SY → Prop} {t : Nat} (ht : t < N) (hN : N ≤ 6) (hR : R ≤ 3) (hsc : ∀ t, t < 6 → zz_nat 4 (xsc t)) (hF : zz_FQ N xre xwc xst xdn xsc yf) (hS : zz_SQ xrs xun xfr xto ysec) (h : wY_tick_531 post (nI t) (nI mT) (nI mS) (nI R) (nI mQ) (nI T) (nI N) op (nI M) (nI K) (upd yf (14 * t + 6) (xdn t + 1)) ysec ysv yqu yqt xcp (zz_fold (zz_low (zz_rest xcp xst xdn xsc xrs xun xfr xto N t)) R 0 xlo) ylg yfi) : wY_tick_297 post (nI t) (nI mT) (nI mS) (nI R) (nI mQ) (nI T) (nI N) op (nI M) (nI K) yf ysec ysv yqu yqt xcp xlo ylg yfi := by
  have f6 := hF.2.2.2.1
  have f13 := hF.2.2.2.2
  obtain ⟨s0, s1, s2, s3⟩ := hS
  have hS' : zz_SQ xrs xun xfr xto ysec := ⟨s0, s1, s2, s3⟩
  have ht6 : t < 6 := by omega
  have hsct := hsc t ht6
  have b16 : nI t < 16 := nI_lt (b := 16) (by omega) (by decide)
  have hpos : ¬ nI t < 0 := nI_pos (by omega)
  simp (disch := omega) only [wY_tick_297, f6, nI_clamp, zz_in, zz_m4, zz_m6, zz_m14, zz_m16, nI_add, zz_p0, zz_p1, zz_p2, zz_p3, zz_p4, zz_p5, zz_p6, zz_p7, zz_p8, zz_p9, zz_p10, zz_p11, zz_p12, zz_p13, zz_a16, true_and, forall_eq]
  refine br_t b16 (br_f hpos ⟨_, zz_loop (fun n i lo => wY_tick_361 post (nI t) (xdn t) (nI mT) (nI mS) (nI R) (nI mQ) (nI T) (nI N) op (nI M) (nI K) n (nI i) yf ysec ysv yqu yqt xcp lo ylg yfi) (zz_low (zz_rest xcp xst xdn xsc xrs xun xfr xto N t)) R (fun lo => wY_tick_531 post (nI t) (nI mT) (nI mS) (nI R) (nI mQ) (nI T) (nI N) op (nI M) (nI K) (upd yf (14 * t + 6) (xdn t + 1)) ysec ysv yqu yqt xcp lo ylg yfi) ?_ ?_ _ 0 xlo _ (Nat.zero_add _) (Nat.lt_succ_self _) h⟩)
  · intro n lo hp
    simp (disch := omega) only [wY_tick_361, nI_clamp, zz_in, zz_m4, zz_m6, zz_m14, zz_m16, nI_add, zz_p0, zz_p1, zz_p2, zz_p3, zz_p4, zz_p5, zz_p6, zz_p7, zz_p8, zz_p9, zz_p10, zz_p11, zz_p12, zz_p13, zz_a16, true_and, forall_eq]
    exact br_t (Int32.le_refl _) hp
  · intro n r lo hr hw
    try dsimp only at hw
    unfold zz_low at hw
    simp (disch := omega) only [wY_tick_361, nI_clamp, zz_in, zz_m4, zz_m6, zz_m14, zz_m16, nI_add, zz_p0, zz_p1, zz_p2, zz_p3, zz_p4, zz_p5, zz_p6, zz_p7, zz_p8, zz_p9, zz_p10, zz_p11, zz_p12, zz_p13, zz_a16, true_and, forall_eq]
    refine br_f (nI_ge hr (by omega)) (yy_heldUnits hN hsc hF hS' ⟨_, zz_loop (fun m k a => wY_tick_382 post (wY_tick_361 post (nI t) (xdn t) (nI mT) (nI mS) (nI R) (nI mQ) (nI T) (nI N) op (nI M) (nI K) n) (nI t) (xdn t) (nI r) (nI mT) (nI mS) (nI R) (nI mQ) (nI T) (nI N) op (nI M) (nI K) yf ysec ysv yqu yqt xcp lo ylg yfi m a (nI k)) (fun i a => a + zz_uu xdn xrs xun xfr xto (nI r) t (4 * t + i)) (zc (xsc t)) (fun a => xcp r - a = zz_rest xcp xst xdn xsc xrs xun xfr xto N t r) ?_ ?_ _ 0 _ _ (Nat.zero_add _) (Nat.lt_succ_self _) ?_⟩)
    · intro m a ha
      try dsimp only at ha
      simp (disch := omega) only [wY_tick_382, f13, ha, nI_clamp, zz_in, zz_m4, zz_m6, zz_m14, zz_m16, nI_add, zz_p0, zz_p1, zz_p2, zz_p3, zz_p4, zz_p5, zz_p6, zz_p7, zz_p8, zz_p9, zz_p10, zz_p11, zz_p12, zz_p13, zz_a16, true_and, forall_eq]
      refine br_t (zz_nat_ge hsct) (br_c (fun q => ?_) (fun q => ?_))
      · rw [if_pos q] at hw; exact hw
      · rw [if_neg q] at hw; exact hw
    · intro m i a hi hw2
      have hi4 : i < 4 := Nat.lt_of_lt_of_le hi hsct.2
      dsimp only [zz_uu] at hw2
      simp (disch := omega) only [wY_tick_382, f13, s0, s1, s2, s3, nI_clamp, zz_in, zz_m4, zz_m6, zz_m14, zz_m16, nI_add, zz_p0, zz_p1, zz_p2, zz_p3, zz_p4, zz_p5, zz_p6, zz_p7, zz_p8, zz_p9, zz_p10, zz_p11, zz_p12, zz_p13, zz_a16, true_and, forall_eq]
      refine br_f (zz_nat_lt hsct (by decide) hi) (br_c (fun a1 => br_c (fun a2 => ?_) (fun a2 => br_c (fun a3 => ?_) (fun a3 => ?_))) (fun a1 => ?_))
      · rw [if_pos a1, if_pos a2, Int32.add_zero] at hw2; exact hw2
      · rw [if_pos a1, if_neg a2, if_pos a3, Int32.add_zero] at hw2; exact hw2
      · rw [if_pos a1, if_neg a2, if_neg a3] at hw2; exact hw2
      · rw [if_neg a1, Int32.add_zero] at hw2; exact hw2
    · try dsimp only
      rw [zz_fold_add]
      exact zz_rest_eq ht hN
theorem xx_serve {post : SX → Prop} {s : Nat} (hs : s < 3) (h : post (nI mT, nI mS, nI R, nI mQ, nI T, nI N, op, nI M, nI K, xtr, xcp, xlo, xpe, xre, xwc, xus, xst, xln, xdn, xdu, xnx, xco, xmi, xwo, xbl, xsc, xrs, xun, xfr, xto, xbu, xsp, upd xle s (xle s - 1), xsd, xex, xql, upd xqu (6 * s) (xqu (6 * s) - 1), xqt, xfa)) : wpX_serve post (nI mT, nI mS, nI R, nI mQ, nI T, nI N, op, nI M, nI K, xtr, xcp, xlo, xpe, xre, xwc, xus, xst, xln, xdn, xdu, xnx, xco, xmi, xwo, xbl, xsc, xrs, xun, xfr, xto, xbu, xsp, xle, xsd, xex, xql, xqu, xqt, xfa) (nI s) := by
  simp (disch := omega) only [wpX_serve, nI_clamp, zz_in, zz_m4, zz_m6, zz_m14, zz_m16, nI_add, zz_p0, zz_p1, zz_p2, zz_p3, zz_p4, zz_p5, zz_p6, zz_p7, zz_p8, zz_p9, zz_p10, zz_p11, zz_p12, zz_p13, zz_a16, true_and, forall_eq]
  exact h
theorem yy_serve {post : SY → Prop} {s : Nat} (hs : s < M) (hM : M ≤ 3) (hV : zz_RV M xbu xsp xle xsd xql xex ysv) (hq : yqu (6 * s) = xqu (6 * s)) (h : wY_tick_531 post (nI (16 + s)) (nI mT) (nI mS) (nI R) (nI mQ) (nI T) (nI N) op (nI M) (nI K) yf ysec (upd ysv (6 * s + 2) (xle s - 1)) (upd yqu (6 * s) (xqu (6 * s) - 1)) yqt xcp xlo ylg yfi) : wY_tick_297 post (nI (16 + s)) (nI mT) (nI mS) (nI R) (nI mQ) (nI T) (nI N) op (nI M) (nI K) yf ysec ysv yqu yqt xcp xlo ylg yfi := by
  have v2 := rv_2 hV
  have b16 : ¬ nI (16 + s) < 16 := nI_nlt (b := 16) (by omega) (by omega)
  simp (disch := omega) only [wY_tick_297, zz_s16, v2, hq, nI_clamp, zz_in, zz_m4, zz_m6, zz_m14, zz_m16, nI_add, zz_p0, zz_p1, zz_p2, zz_p3, zz_p4, zz_p5, zz_p6, zz_p7, zz_p8, zz_p9, zz_p10, zz_p11, zz_p12, zz_p13, zz_a16, true_and, forall_eq]
  exact br_f b16 h
theorem rq_serve {s : Nat} {v : Int32} (hs : s < 3) (hm : mQ ≤ 6) (h : zz_RQ mQ K xql xqu xqt yqu yqt) : zz_RQ mQ K xql (upd xqu (6 * s) v) xqt (upd yqu (6 * s) v) yqt := by
  intro s' hs'
  obtain ⟨h1, h2⟩ := h s' hs'
  refine ⟨h1, fun p hp => ?_⟩
  obtain ⟨g1, g2⟩ := h2 p hp
  refine ⟨?_, g2⟩
  by_cases e : 6 * s' + p = 6 * s
  · rw [e, pk_us, pk_us]
  · rw [pk_un e, pk_un e]; exact g1
end
section
/-! the choice of a tick -/
variable {mT mS R mQ T N M K : Nat} {op : Int32} {xtr xcp xlo xpe xre xwc xus xst xln xdn xdu xnx xco xmi xwo xbl xsc xrs xun xfr xto xbu xsp xle xsd xex xql xqu xqt xfa : Nat → Int32} {yf ysec ysv yqu yqt ylg yfi : Nat → Int32}
theorem zz_ut_law {st du : Nat → Int32} {x : Int32} (c : Nat) : zz_ut st du x c = -9 ∨ ∃ j, j < c ∧ zz_ut st du x c = nI j ∧ ¬ st j < x := by
  unfold zz_ut
  refine zz_fold_inv (g := zz_u1 st du x) (fun i a => a = -9 ∨ ∃ j, j < i ∧ a = nI j ∧ ¬ st j < x) c ?_ c 0 (-9) (Nat.zero_add _) (Or.inl rfl)
  intro k a hk ha
  have ha' : a = -9 ∨ ∃ j, j < k + 1 ∧ a = nI j ∧ ¬ st j < x := ha.elim Or.inl (fun ⟨j, h1, h2⟩ => Or.inr ⟨j, by omega, h2⟩)
  unfold zz_u1
  by_cases h1 : st k < x
  · rw [if_pos h1]; exact ha'
  · rw [if_neg h1]
    by_cases h2 : a < 0
    · rw [if_pos h2]; exact Or.inr ⟨k, by omega, rfl, h1⟩
    · rw [if_neg h2]
      by_cases h3 : du (zc a) ≤ du k
      · rw [if_pos h3]; exact ha'
      · rw [if_neg h3]; exact Or.inr ⟨k, by omega, rfl, h1⟩
theorem zz_us_law {ql sd : Nat → Int32} (c : Nat) : zz_us ql sd c = -9 ∨ ∃ j, j < c ∧ zz_us ql sd c = nI j ∧ ¬ ql j ≤ 0 := by
  unfold zz_us
  refine zz_fold_inv (g := zz_u2 ql sd) (fun i a => a = -9 ∨ ∃ j, j < i ∧ a = nI j ∧ ¬ ql j ≤ 0) c ?_ c 0 (-9) (Nat.zero_add _) (Or.inl rfl)
  intro k a hk ha
  have ha' : a = -9 ∨ ∃ j, j < k + 1 ∧ a = nI j ∧ ¬ ql j ≤ 0 := ha.elim Or.inl (fun ⟨j, h1, h2⟩ => Or.inr ⟨j, by omega, h2⟩)
  unfold zz_u2
  by_cases h1 : ql k ≤ 0
  · rw [if_pos h1]; exact ha'
  · rw [if_neg h1]
    by_cases h2 : a < 0
    · rw [if_pos h2]; exact Or.inr ⟨k, by omega, rfl, h1⟩
    · rw [if_neg h2]
      by_cases h3 : sd (zc a) ≤ sd k
      · rw [if_pos h3]; exact ha'
      · rw [if_neg h3]; exact Or.inr ⟨k, by omega, rfl, h1⟩
theorem zz_n9 {j : Nat} (h : j < 2 ^ 31) : ¬ nI j = -9 := by
  intro z
  exact nI_pos h (by rw [z]; decide)
theorem zz_n6 {j : Nat} (h : j < 2 ^ 31) : ¬ nI j = -6 := by
  intro z
  exact nI_pos h (by rw [z]; decide)
/-- the reference's first loop: the most urgent task and its key -/
theorem yy_t7 {post : SY → Prop} (hN : N ≤ 6) (h : zz_TF N op xpe xre xwc xus xst xln xdn xdu xnx xco xmi xwo xbl xsc yf) : ∀ (d i n : Nat) (a key : Int32), i + d = N → d < n → (a = -9 ∨ ∃ j, j < N ∧ a = nI j ∧ key = xdu j) → (∀ key', (zz_fold (zz_u1 xst xdu 1) d i a = -9 ∨ ∃ j, j < N ∧ zz_fold (zz_u1 xst xdu 1) d i a = nI j ∧ key' = xdu j) → ∃ n68 : Nat, wY_tick_68 post (nI mT) (nI mS) (nI R) (nI mQ) (nI T) (nI N) op (nI M) (nI K) yf ysec ysv yqu yqt xcp xlo ylg yfi n68 (zz_fold (zz_u1 xst xdu 1) d i a) key' 0) → wY_tick_7 post (nI mT) (nI mS) (nI R) (nI mQ) (nI T) (nI N) op (nI M) (nI K) yf ysec ysv yqu yqt xcp xlo ylg yfi n a key (nI i) := by
  have f4 := tf_4 h
  have f7 := tf_7 h
  intro d
  induction d with
  | zero =>
    intro i n a key hi hn q hK
    obtain ⟨n, rfl⟩ : ∃ m, n = m + 1 := ⟨n - 1, by omega⟩
    have e : i = N := by omega
    subst e
    rw [wY_tick_7]
    exact br_t (Int32.le_refl _) (hK key q)
  | succ d ih =>
    intro i n a key hi hn q hK
    obtain ⟨n, rfl⟩ : ∃ m, n = m + 1 := ⟨n - 1, by omega⟩
    have hiN : i < N := by omega
    have hst := tf_st h i hiN
    rw [show zz_fold (zz_u1 xst xdu 1) (d + 1) i a = zz_fold (zz_u1 xst xdu 1) d (i + 1) (zz_u1 xst xdu 1 i a) from rfl] at hK
    rw [wY_tick_7]
    simp (disch := omega) only [wY_tick_45, f7, nI_clamp, zz_in, zz_m4, zz_m6, zz_m14, zz_m16, nI_add, zz_p0, zz_p1, zz_p2, zz_p3, zz_p4, zz_p5, zz_p6, zz_p7, zz_p8, zz_p9, zz_p10, zz_p11, zz_p12, zz_p13, zz_a16, true_and, forall_eq]
    refine br_f (nI_ge hiN (by omega)) (yy_hasJob hiN hN f4 (fun z => br_f (by decide) (br_c (fun w => ?_) (fun w => br_c (fun p => ?_) (fun p => ?_)))) (fun z1 z2 => br_t rfl ?_))
    · have hz : ¬ xst i < 1 := by rcases z with z | z <;> rw [z] <;> decide
      have e : zz_u1 xst xdu 1 i a = nI i := by
        unfold zz_u1
        rw [if_neg hz, if_pos (by rw [w]; decide)]
      rw [e] at hK
      exact ih (i + 1) n (nI i) (xdu i) (by omega) (by omega) (Or.inr ⟨i, hiN, rfl, rfl⟩) hK
    · have hz : ¬ xst i < 1 := by rcases z with z | z <;> rw [z] <;> decide
      obtain ⟨j, hj, ej, ek⟩ := q.resolve_left w
      have e : zz_u1 xst xdu 1 i a = a := by
        unfold zz_u1
        rw [if_neg hz, if_neg (by rw [ej]; exact nI_pos (by omega)), if_pos (by rw [ej, zc_nI (by omega), ← ek]; exact p)]
      rw [e] at hK
      exact ih (i + 1) n a key (by omega) (by omega) q hK
    · have hz : ¬ xst i < 1 := by rcases z with z | z <;> rw [z] <;> decide
      obtain ⟨j, hj, ej, ek⟩ := q.resolve_left w
      have e : zz_u1 xst xdu 1 i a = nI i := by
        unfold zz_u1
        rw [if_neg hz, if_neg (by rw [ej]; exact nI_pos (by omega)), if_neg (by rw [ej, zc_nI (by omega), ← ek]; exact p)]
      rw [e] at hK
      exact ih (i + 1) n (nI i) (xdu i) (by omega) (by omega) (Or.inr ⟨i, hiN, rfl, rfl⟩) hK
    · have hz : xst i < 1 := by
        rcases hst with z | z | z
        · rw [z]; decide
        · exact absurd z z1
        · exact absurd z z2
      have e : zz_u1 xst xdu 1 i a = a := by
        unfold zz_u1
        rw [if_pos hz]
      rw [e] at hK
      exact ih (i + 1) n a key (by omega) (by omega) q hK
def zz_IV (xsd : Nat → Int32) (tk k0 bs x1 x2 : Int32) : Prop := (bs = -9 ∧ x1 = tk ∧ x2 = k0) ∨ (∃ j, j < 3 ∧ bs = nI j ∧ (tk = -9 ∨ xsd j < k0) ∧ x1 = nI (16 + j) ∧ x2 = xsd j) ∨ (∃ j, j < 3 ∧ bs = nI j ∧ tk ≠ -9 ∧ ¬ xsd j < k0 ∧ x1 = tk ∧ x2 = k0)
theorem iv_take9 {xql xsd : Nat → Int32} {tk k0 bs x1 x2 : Int32} {i : Nat} (hi : i < 3) (hq : ¬ xql i ≤ 0) (h : zz_IV xsd tk k0 bs x1 x2) (e : x1 = -9) : zz_IV xsd tk k0 (zz_u2 xql xsd i bs) (nI (16 + i)) (xsd i) := by
  unfold zz_u2
  rw [if_neg hq]
  rcases h with ⟨h1, h2, h3⟩ | ⟨j, h1, h2, h3, h4, h5⟩ | ⟨j, h1, h2, h3, h4, h5, h6⟩
  · rw [if_pos (by rw [h1]; decide)]
    exact Or.inr (Or.inl ⟨i, hi, rfl, Or.inl (h2.symm.trans e), rfl, rfl⟩)
  · exact absurd (h4.symm.trans e) (zz_n9 (by omega))
  · exact absurd (h5.symm.trans e) h3
theorem iv_take {xql xsd : Nat → Int32} {tk k0 bs x1 x2 : Int32} {i : Nat} (hi : i < 3) (hq : ¬ xql i ≤ 0) (h : zz_IV xsd tk k0 bs x1 x2) (p : ¬ x2 ≤ xsd i) : zz_IV xsd tk k0 (zz_u2 xql xsd i bs) (nI (16 + i)) (xsd i) := by
  unfold zz_u2
  rw [if_neg hq]
  rw [Int32.le_iff_toInt_le] at p
  rcases h with ⟨h1, h2, h3⟩ | ⟨j, h1, h2, h3, h4, h5⟩ | ⟨j, h1, h2, h3, h4, h5, h6⟩
  · rw [if_pos (by rw [h1]; decide)]
    subst h3
    exact Or.inr (Or.inl ⟨i, hi, rfl, Or.inr (by rw [Int32.lt_iff_toInt_lt]; omega), rfl, rfl⟩)
  · subst h5
    rw [h2, if_neg (nI_pos (by omega)), zc_nI (by omega), if_neg (by rw [Int32.le_iff_toInt_le]; omega)]
    refine Or.inr (Or.inl ⟨i, hi, rfl, h3.elim Or.inl (fun z => Or.inr ?_), rfl, rfl⟩)
    rw [Int32.lt_iff_toInt_lt] at z ⊢
    omega
  · subst h6
    rw [Int32.lt_iff_toInt_lt] at h4
    rw [h2, if_neg (nI_pos (by omega)), zc_nI (by omega), if_neg (by rw [Int32.le_iff_toInt_le]; omega)]
    exact Or.inr (Or.inl ⟨i, hi, rfl, Or.inr (by rw [Int32.lt_iff_toInt_lt]; omega), rfl, rfl⟩)
theorem iv_keep {xql xsd : Nat → Int32} {tk k0 bs x1 x2 : Int32} {i : Nat} (hi : i < 3) (hq : ¬ xql i ≤ 0) (h : zz_IV xsd tk k0 bs x1 x2) (e : ¬ x1 = -9) (p : x2 ≤ xsd i) : zz_IV xsd tk k0 (zz_u2 xql xsd i bs) x1 x2 := by
  unfold zz_u2
  rw [if_neg hq]
  rw [Int32.le_iff_toInt_le] at p
  rcases h with ⟨h1, h2, h3⟩ | ⟨j, h1, h2, h3, h4, h5⟩ | ⟨j, h1, h2, h3, h4, h5, h6⟩
  · rw [if_pos (by rw [h1]; decide)]
    subst h3
    exact Or.inr (Or.inr ⟨i, hi, rfl, fun z => e (h2.trans z), by rw [Int32.lt_iff_toInt_lt]; omega, h2, rfl⟩)
  · subst h5
    rw [h2, if_neg (nI_pos (by omega)), zc_nI (by omega), if_pos (by rw [Int32.le_iff_toInt_le]; omega)]
    exact Or.inr (Or.inl ⟨j, h1, rfl, h3, h4, rfl⟩)
  · subst h6
    rw [h2, if_neg (nI_pos (by omega)), zc_nI (by omega)]
    by_cases w : xsd j ≤ xsd i
    · rw [if_pos w]
      exact Or.inr (Or.inr ⟨j, h1, rfl, h3, h4, h5, rfl⟩)
    · rw [if_neg w]
      exact Or.inr (Or.inr ⟨i, hi, rfl, h3, by rw [Int32.lt_iff_toInt_lt]; omega, h5, rfl⟩)
theorem yy_t68 {post : SY → Prop} {tk k0 : Int32} (hM : M ≤ 3) (v3 : ∀ s, s < 3 → ysv (6 * s + 3) = xsd s) (v4 : ∀ s, s < 3 → ysv (6 * s + 4) = xql s) : ∀ (d i n : Nat) (bs x1 x2 : Int32), i + d = M → d < n → zz_IV xsd tk k0 bs x1 x2 → (∀ (x1' x2' : Int32) (n : Nat), zz_IV xsd tk k0 (zz_fold (zz_u2 xql xsd) d i bs) x1' x2' → wY_tick_68 post (nI mT) (nI mS) (nI R) (nI mQ) (nI T) (nI N) op (nI M) (nI K) yf ysec ysv yqu yqt xcp xlo ylg yfi (n + 1) x1' x2' (nI M)) → wY_tick_68 post (nI mT) (nI mS) (nI R) (nI mQ) (nI T) (nI N) op (nI M) (nI K) yf ysec ysv yqu yqt xcp xlo ylg yfi n x1 x2 (nI i) := by
  intro d
  induction d with
  | zero =>
    intro i n bs x1 x2 hi hn q hK
    obtain ⟨n, rfl⟩ : ∃ m, n = m + 1 := ⟨n - 1, by omega⟩
    have e : i = M := by omega
    subst e
    exact hK x1 x2 n q
  | succ d ih =>
    intro i n bs x1 x2 hi hn q hK
    obtain ⟨n, rfl⟩ : ∃ m, n = m + 1 := ⟨n - 1, by omega⟩
    have hiM : i < M := by omega
    rw [show zz_fold (zz_u2 xql xsd) (d + 1) i bs = zz_fold (zz_u2 xql xsd) d (i + 1) (zz_u2 xql xsd i bs) from rfl] at hK
    have step : ∀ y1 y2 : Int32, zz_IV xsd tk k0 (zz_u2 xql xsd i bs) y1 y2 → wY_tick_68 post (nI mT) (nI mS) (nI R) (nI mQ) (nI T) (nI N) op (nI M) (nI K) yf ysec ysv yqu yqt xcp xlo ylg yfi n y1 y2 (nI (i + 1)) := fun y1 y2 hy => ih (i + 1) n _ y1 y2 (by omega) (by omega) hy hK
    rw [wY_tick_68]
    refine br_f (nI_ge hiM (by omega)) ?_
    simp (disch := omega) only [wY_tick_111, v3, v4, nI_clamp, zz_in, zz_m4, zz_m6, zz_m14, zz_m16, nI_add, zz_p0, zz_p1, zz_p2, zz_p3, zz_p4, zz_p5, zz_p6, zz_p7, zz_p8, zz_p9, zz_p10, zz_p11, zz_p12, zz_p13, zz_a16, true_and, forall_eq]
    refine br_c (fun z => step x1 x2 ?_) (fun z => br_c (fun w => step _ _ (iv_take9 (by omega) z q w)) (fun w => br_c (fun p => step _ _ (iv_keep (by omega) z q w p)) (fun p => step _ _ (iv_take (by omega) z q p))))
    unfold zz_u2
    rw [if_pos z]
    exact q
/-- the reference's search for another started task -/
theorem yy_t229 {post : SY → Prop} (hN : N ≤ 6) (h : zz_TF N op xpe xre xwc xus xst xln xdn xdu xnx xco xmi xwo xbl xsc yf) (hp : wY_tick_297 post (zz_ut xst xdu 2 N) (nI mT) (nI mS) (nI R) (nI mQ) (nI T) (nI N) op (nI M) (nI K) yf ysec ysv yqu yqt xcp xlo ylg yfi) : ∃ n : Nat, wY_tick_229 post (nI mT) (nI mS) (nI R) (nI mQ) (nI T) (nI N) op (nI M) (nI K) yf ysec ysv yqu yqt xcp xlo ylg yfi n (-9) 0 := by
  have f4 := tf_4 h
  have f7 := tf_7 h
  refine ⟨_, zz_loopI (fun n i a => wY_tick_229 post (nI mT) (nI mS) (nI R) (nI mQ) (nI T) (nI N) op (nI M) (nI K) yf ysec ysv yqu yqt xcp xlo ylg yfi n a (nI i)) (zz_u1 xst xdu 2) N (fun a => wY_tick_297 post a (nI mT) (nI mS) (nI R) (nI mQ) (nI T) (nI N) op (nI M) (nI K) yf ysec ysv yqu yqt xcp xlo ylg yfi) (zz_op 6) (fun i a hi q => zz_op_u1 (by omega) q) ?_ ?_ _ 0 (-9) _ (Nat.zero_add _) (Nat.lt_succ_self _) (Or.inl rfl) hp⟩
  · intro n a q hp
    try dsimp only
    rw [wY_tick_229]
    exact br_t (Int32.le_refl _) hp
  · intro n i a hi q hw
    have hst := tf_st h i hi
    dsimp only [zz_u1] at hw
    try dsimp only
    rw [wY_tick_229]
    refine br_f (nI_ge hi (by omega)) ?_
    have h2 : xst i = 2 → ¬ xst i < 2 := fun z => by rw [z]; decide
    have h3 : ¬ xst i = 2 → xst i < 2 := fun z => by
      rcases hst with y | y | y
      · rw [y]; decide
      · rw [y]; decide
      · exact absurd y z
    rcases q with q | ⟨j, hj, ej⟩
    · simp (disch := omega) only [f4, f7, nI_clamp, zz_in, zz_m4, zz_m6, zz_m14, zz_m16, nI_add, zz_p0, zz_p1, zz_p2, zz_p3, zz_p4, zz_p5, zz_p6, zz_p7, zz_p8, zz_p9, zz_p10, zz_p11, zz_p12, zz_p13, zz_a16, true_and, forall_eq]
      refine br_c (fun z => br_t q ?_) (fun z => ?_)
      · rw [if_neg (h2 z), if_pos (by rw [q]; decide)] at hw; exact hw
      · rw [if_pos (h3 z)] at hw; exact hw
    · subst ej
      rw [zc_nI (by omega)] at hw
      simp (disch := omega) only [f4, f7, nI_clamp, zz_in, zz_m4, zz_m6, zz_m14, zz_m16, nI_add, zz_p0, zz_p1, zz_p2, zz_p3, zz_p4, zz_p5, zz_p6, zz_p7, zz_p8, zz_p9, zz_p10, zz_p11, zz_p12, zz_p13, zz_a16, true_and, forall_eq]
      refine br_c (fun z => br_f (zz_n9 (by omega)) (br_c (fun p => ?_) (fun p => ?_))) (fun z => ?_)
      · rw [if_neg (h2 z), if_neg (nI_pos (by omega)), if_pos p] at hw; exact hw
      · rw [if_neg (h2 z), if_neg (nI_pos (by omega)), if_neg p] at hw; exact hw
      · rw [if_pos (h3 z)] at hw; exact hw
/-- an urgent task: it starts, goes on, or is blocked -/
theorem ph_c39 {t : Nat} (ht : t < N) (h1 : ¬ xst t < 1) (hN : N ≤ 6) (hR : R ≤ 3) (h : zz_TF N op xpe xre xwc xus xst xln xdn xdu xnx xco xmi xwo xbl xsc yf) (hG : zz_RG xre xwc xsc xun xfr xto) (hS : zz_SQ xrs xun xfr xto ysec) : ∃ (r : Int32) (xst' xbl' yf' : Nat → Int32), zz_TF N op xpe xre xwc xus xst' xln xdn xdu xnx xco xmi xwo xbl' xsc yf' ∧ (r = -9 ∨ ∃ j, j < N ∧ r = nI j) ∧ (∀ post : Int32 → SX → Prop, post r (nI mT, nI mS, nI R, nI mQ, nI T, nI N, op, nI M, nI K, xtr, xcp, xlo, xpe, xre, xwc, xus, xst', xln, xdn, xdu, xnx, xco, xmi, xwo, xbl', xsc, xrs, xun, xfr, xto, xbu, xsp, xle, xsd, xex, xql, xqu, xqt, xfa) → wX_choose_39 post (nI t) (nI mT) (nI mS) (nI R) (nI mQ) (nI T) (nI N) op (nI M) (nI K) xtr xcp xlo xpe xre xwc xus xst xln xdn xdu xnx xco xmi xwo xbl xsc xrs xun xfr xto xbu xsp xle xsd xex xql xqu xqt xfa) ∧ (∀ (post : SY → Prop) (n : Nat) (x2 : Int32), wY_tick_297 post r (nI mT) (nI mS) (nI R) (nI mQ) (nI T) (nI N) op (nI M) (nI K) yf' ysec ysv yqu yqt xcp xlo ylg yfi → wY_tick_68 post (nI mT) (nI mS) (nI R) (nI mQ) (nI T) (nI N) op (nI M) (nI K) yf ysec ysv yqu yqt xcp xlo ylg yfi (n + 1) (nI t) x2 (nI M)) := by
  have f1 := tf_1 h
  have f4 := tf_4 h
  have f12 := tf_12 h
  have hF := tf_fq h
  have hsc := hG.1
  have hp0 : (0 : Int32) ≤ nI t := nI_pos' (by omega)
  have hpos : ¬ nI t < 0 := nI_pos (by omega)
  have hlt : ¬ nI N ≤ nI t := nI_ge ht (by omega)
  have hst := tf_st h t ht
  by_cases q : xst t = 2
  · refine ⟨nI t, xst, xbl, yf, h, Or.inr ⟨t, ht, rfl⟩, fun post hp => ?_, fun post n x2 hp => ?_⟩
    · simp (disch := omega) only [wX_choose_39, nI_clamp, zz_in, zz_m4, zz_m6, zz_m14, zz_m16, nI_add, zz_p0, zz_p1, zz_p2, zz_p3, zz_p4, zz_p5, zz_p6, zz_p7, zz_p8, zz_p9, zz_p10, zz_p11, zz_p12, zz_p13, zz_a16, true_and, forall_eq]
      exact br_t hp0 (br_t q hp)
    · rw [wY_tick_68]
      refine br_t (Int32.le_refl _) ?_
      simp (disch := omega) only [f4, nI_clamp, zz_in, zz_m4, zz_m6, zz_m14, zz_m16, nI_add, zz_p0, zz_p1, zz_p2, zz_p3, zz_p4, zz_p5, zz_p6, zz_p7, zz_p8, zz_p9, zz_p10, zz_p11, zz_p12, zz_p13, zz_a16, true_and, forall_eq]
      exact br_f hpos (br_f hlt (br_f (by rw [q]; decide) hp))
  · have q1 : xst t = 1 := by
      rcases hst with z | z | z
      · exact absurd (by rw [z]; decide) h1
      · exact z
      · exact absurd z q
    have hce : zz_cX xre (zz_need xsc xrs xun) (zz_free xcp (zz_hb xst xdn xsc xrs xun xfr xto) N) N R = zz_cY xre (zz_need xsc xrs xun) (zz_free xcp (zz_hb xst xdn xsc xrs xun xfr xto) N) N R :=
      zz_ceil_eq (fun k hk z => by
        obtain ⟨x, hx, ex⟩ := zz_nat_ex (hG.2.1 k (by omega))
        rw [ex] at z
        exact zz_n6 (by omega) z)
    generalize ec : zz_cX xre (zz_need xsc xrs xun) (zz_free xcp (zz_hb xst xdn xsc xrs xun xfr xto) N) N R = c at hce
    by_cases go : c = -6 ∨ ¬ c ≤ xre t
    · refine ⟨nI t, _, xbl, _, tf_u4 (v := 2) ht (Or.inr (Or.inr rfl)) h, Or.inr ⟨t, ht, rfl⟩, fun post hp => ?_, fun post n x2 hp => ?_⟩
      · simp (disch := omega) only [wX_choose_39, nI_clamp, zz_in, zz_m4, zz_m6, zz_m14, zz_m16, nI_add, zz_p0, zz_p1, zz_p2, zz_p3, zz_p4, zz_p5, zz_p6, zz_p7, zz_p8, zz_p9, zz_p10, zz_p11, zz_p12, zz_p13, zz_a16, true_and, forall_eq]
        refine br_t hp0 (br_f q (xx_ceiling hR hN hsc ?_))
        rw [ec]
        by_cases g : c = -6
        · exact br_t g hp
        · exact br_f g (br_f (go.resolve_left g) hp)
      · rw [wY_tick_68]
        refine br_t (Int32.le_refl _) ?_
        simp (disch := omega) only [f4, f1, f12, wY_tick_192, nI_clamp, zz_in, zz_m4, zz_m6, zz_m14, zz_m16, nI_add, zz_p0, zz_p1, zz_p2, zz_p3, zz_p4, zz_p5, zz_p6, zz_p7, zz_p8, zz_p9, zz_p10, zz_p11, zz_p12, zz_p13, zz_a16, true_and, forall_eq]
        refine br_f hpos (br_f hlt (br_t q1 (yy_ceiling hR hN hsc hF hS ?_)))
        rw [← hce]
        by_cases g : c = -6
        · exact br_t g hp
        · exact br_f g (br_f (go.resolve_left g) hp)
    · have g1 : ¬ c = -6 := fun z => go (Or.inl z)
      have g2 : c ≤ xre t := Decidable.not_not.mp (fun z => go (Or.inr z))
      have h' := tf_u12 (v := xbl t + 1) ht h
      refine ⟨zz_ut xst xdu 2 N, xst, _, _, h', ?_, fun post hp => ?_, fun post n x2 hp => ?_⟩
      · rcases zz_ut_law (st := xst) (du := xdu) (x := 2) N with z | ⟨j, z1, z2, _⟩
        · exact Or.inl z
        · exact Or.inr ⟨j, z1, z2⟩
      · simp (disch := omega) only [wX_choose_39, nI_clamp, zz_in, zz_m4, zz_m6, zz_m14, zz_m16, nI_add, zz_p0, zz_p1, zz_p2, zz_p3, zz_p4, zz_p5, zz_p6, zz_p7, zz_p8, zz_p9, zz_p10, zz_p11, zz_p12, zz_p13, zz_a16, true_and, forall_eq]
        refine br_t hp0 (br_f q (xx_ceiling hR hN hsc ?_))
        rw [ec]
        exact br_f g1 (br_t g2 (xx_urgentTask hN hp))
      · rw [wY_tick_68]
        refine br_t (Int32.le_refl _) ?_
        simp (disch := omega) only [f4, f1, f12, wY_tick_192, nI_clamp, zz_in, zz_m4, zz_m6, zz_m14, zz_m16, nI_add, zz_p0, zz_p1, zz_p2, zz_p3, zz_p4, zz_p5, zz_p6, zz_p7, zz_p8, zz_p9, zz_p10, zz_p11, zz_p12, zz_p13, zz_a16, true_and, forall_eq]
        refine br_f hpos (br_f hlt (br_t q1 (yy_ceiling hR hN hsc hF hS ?_)))
        rw [← hce]
        exact br_f g1 (br_t g2 (yy_t229 hN h' hp))
/-- the choice -/
theorem ph_choose (hN : N ≤ 6) (hR : R ≤ 3) (hM : M ≤ 3) (h : zz_TF N op xpe xre xwc xus xst xln xdn xdu xnx xco xmi xwo xbl xsc yf) (hG : zz_RG xre xwc xsc xun xfr xto) (hS : zz_SQ xrs xun xfr xto ysec) (hV : zz_RV M xbu xsp xle xsd xql xex ysv) : ∃ (r : Int32) (xst' xbl' yf' : Nat → Int32), zz_TF N op xpe xre xwc xus xst' xln xdn xdu xnx xco xmi xwo xbl' xsc yf' ∧ (r = -9 ∨ (∃ j, j < N ∧ r = nI j) ∨ (∃ s, s < M ∧ r = nI (16 + s) ∧ ¬ xql s ≤ 0)) ∧ (∀ post : Int32 → SX → Prop, post r (nI mT, nI mS, nI R, nI mQ, nI T, nI N, op, nI M, nI K, xtr, xcp, xlo, xpe, xre, xwc, xus, xst', xln, xdn, xdu, xnx, xco, xmi, xwo, xbl', xsc, xrs, xun, xfr, xto, xbu, xsp, xle, xsd, xex, xql, xqu, xqt, xfa) → wpX_choose post (nI mT, nI mS, nI R, nI mQ, nI T, nI N, op, nI M, nI K, xtr, xcp, xlo, xpe, xre, xwc, xus, xst, xln, xdn, xdu, xnx, xco, xmi, xwo, xbl, xsc, xrs, xun, xfr, xto, xbu, xsp, xle, xsd, xex, xql, xqu, xqt, xfa)) ∧ (∀ post : SY → Prop, wY_tick_297 post r (nI mT) (nI mS) (nI R) (nI mQ) (nI T) (nI N) op (nI M) (nI K) yf' ysec ysv yqu yqt xcp xlo ylg yfi → wpY_tick post (nI mT, nI mS, nI R, nI mQ, nI T, nI N, op, nI M, nI K, yf, ysec, ysv, yqu, yqt, xcp, xlo, ylg, yfi)) := by
  have hY : ∀ post : SY → Prop, (∀ (x1 x2 : Int32) (n : Nat), (∃ k0, (zz_ut xst xdu 1 N = -9 ∨ ∃ j, j < N ∧ zz_ut xst xdu 1 N = nI j ∧ k0 = xdu j) ∧ zz_IV xsd (zz_ut xst xdu 1 N) k0 (zz_us xql xsd M) x1 x2) → wY_tick_68 post (nI mT) (nI mS) (nI R) (nI mQ) (nI T) (nI N) op (nI M) (nI K) yf ysec ysv yqu yqt xcp xlo ylg yfi (n + 1) x1 x2 (nI M)) → wpY_tick post (nI mT, nI mS, nI R, nI mQ, nI T, nI N, op, nI M, nI K, yf, ysec, ysv, yqu, yqt, xcp, xlo, ylg, yfi) := by
    intro post hK
    show ∃ n7 : Nat, wY_tick_7 post (nI mT) (nI mS) (nI R) (nI mQ) (nI T) (nI N) op (nI M) (nI K) yf ysec ysv yqu yqt xcp xlo ylg yfi n7 (-9) 0 0
    refine ⟨N + 1, yy_t7 hN h N 0 (N + 1) (-9) 0 (Nat.zero_add _) (Nat.lt_succ_self _) (Or.inl rfl) (fun key' hk => ⟨M + 1, ?_⟩)⟩
    exact yy_t68 hM (rv_3 hV) (rv_4 hV) M 0 (M + 1) (-9) _ key' (Nat.zero_add _) (Nat.lt_succ_self _) (Or.inl ⟨rfl, rfl, rfl⟩) (fun x1 x2 n hiv => hK x1 x2 n ⟨key', hk, hiv⟩)
  have inj : ∀ a b : Nat, a < 3 → b < 3 → nI a = nI b → a = b := fun a b ha hb z => (nI_eq (by omega) (by omega)).mp z
  have hserver : ∀ (s : Nat) (post : SY → Prop) (n : Nat) (x2 : Int32), s < M → wY_tick_297 post (nI (16 + s)) (nI mT) (nI mS) (nI R) (nI mQ) (nI T) (nI N) op (nI M) (nI K) yf ysec ysv yqu yqt xcp xlo ylg yfi → wY_tick_68 post (nI mT) (nI mS) (nI R) (nI mQ) (nI T) (nI N) op (nI M) (nI K) yf ysec ysv yqu yqt xcp xlo ylg yfi (n + 1) (nI (16 + s)) x2 (nI M) := by
    intro s post n x2 hs hp
    rw [wY_tick_68]
    exact br_t (Int32.le_refl _) (br_f (nI_pos (by omega)) (br_t (nI_le (by omega) (by omega)) hp))
  have law1 := zz_ut_law (st := xst) (du := xdu) (x := 1) N
  have law2 := zz_us_law (ql := xql) (sd := xsd) M
  generalize ek : zz_ut xst xdu 1 N = tk at hY law1
  generalize eb : zz_us xql xsd M = bs at hY law2
  rcases law2 with b9 | ⟨s, hs, bs', hql⟩
  · subst b9
    rcases law1 with k9 | ⟨t, ht, ets, hst⟩
    · subst k9
      refine ⟨-9, xst, xbl, yf, h, Or.inl rfl, fun post hp => ?_, fun post hp => hY post (fun x1 x2 n ⟨k0, _, hiv⟩ => ?_)⟩
      · simp only [wpX_choose]
        refine xx_urgentTask hN (xx_urgentServer hM ?_)
        rw [ek, eb]
        refine br_t (by decide) ?_
        unfold wX_choose_39
        exact br_f (by decide) hp
      · rcases hiv with ⟨_, e1, _⟩ | ⟨j, hj, e, _⟩ | ⟨j, hj, e, _⟩
        · subst e1
          rw [wY_tick_68]
          exact br_t (Int32.le_refl _) (br_t (by decide) hp)
        · exact absurd e.symm (zz_n9 (by omega))
        · exact absurd e.symm (zz_n9 (by omega))
    · subst ets
      obtain ⟨r, xst', xbl', yf', h', hr, hX, hY'⟩ := ph_c39 (mT := mT) (mS := mS) (mQ := mQ) (T := T) (K := K) (xtr := xtr) (xcp := xcp) (xlo := xlo) (xbu := xbu) (xsp := xsp) (xle := xle) (xsd := xsd) (xex := xex) (xql := xql) (xqu := xqu) (xqt := xqt) (xfa := xfa) (M := M) (ysv := ysv) (yqu := yqu) (yqt := yqt) (ylg := ylg) (yfi := yfi) ht hst hN hR h hG hS
      refine ⟨r, xst', xbl', yf', h', hr.elim Or.inl (fun z => Or.inr (Or.inl z)), fun post hp => ?_, fun post hp => hY post (fun x1 x2 n ⟨k0, _, hiv⟩ => ?_)⟩
      · simp only [wpX_choose]
        refine xx_urgentTask hN (xx_urgentServer hM ?_)
        rw [ek, eb]
        exact br_t (by decide) (hX post hp)
      · rcases hiv with ⟨_, e1, _⟩ | ⟨j, hj, e, _⟩ | ⟨j, hj, e, _⟩
        · subst e1
          exact hY' post n x2 hp
        · exact absurd e.symm (zz_n9 (by omega))
        · exact absurd e.symm (zz_n9 (by omega))
  · subst bs'
    have hsn : ¬ nI s < 0 := nI_pos (by omega)
    rcases law1 with k9 | ⟨t, ht, ets, hst⟩
    · subst k9
      refine ⟨nI (16 + s), xst, xbl, yf, h, Or.inr (Or.inr ⟨s, hs, rfl, hql⟩), fun post hp => ?_, fun post hp => hY post (fun x1 x2 n ⟨k0, _, hiv⟩ => ?_)⟩
      · simp only [wpX_choose]
        refine xx_urgentTask hN (xx_urgentServer hM ?_)
        rw [ek, eb]
        simp (disch := omega) only [nI_0, nI_clamp, zz_in, zz_m4, zz_m6, zz_m14, zz_m16, nI_add, zz_p0, zz_p1, zz_p2, zz_p3, zz_p4, zz_p5, zz_p6, zz_p7, zz_p8, zz_p9, zz_p10, zz_p11, zz_p12, zz_p13, zz_a16, true_and, forall_eq]
        exact br_f hsn (br_t (by decide) hp)
      · rcases hiv with ⟨e, _, _⟩ | ⟨j, hj, e, _, e1, _⟩ | ⟨j, hj, e, e1, _⟩
        · exact absurd e (zz_n9 (by omega))
        · have := inj s j (by omega) hj e
          subst this
          subst e1
          exact hserver s post n x2 hs hp
        · exact absurd rfl e1
    · subst ets
      by_cases w : xdu t ≤ xsd s
      · obtain ⟨r, xst', xbl', yf', h', hr, hX, hY'⟩ := ph_c39 (mT := mT) (mS := mS) (mQ := mQ) (T := T) (K := K) (xtr := xtr) (xcp := xcp) (xlo := xlo) (xbu := xbu) (xsp := xsp) (xle := xle) (xsd := xsd) (xex := xex) (xql := xql) (xqu := xqu) (xqt := xqt) (xfa := xfa) (M := M) (ysv := ysv) (yqu := yqu) (yqt := yqt) (ylg := ylg) (yfi := yfi) ht hst hN hR h hG hS
        refine ⟨r, xst', xbl', yf', h', hr.elim Or.inl (fun z => Or.inr (Or.inl z)), fun post hp => ?_, fun post hp => hY post (fun x1 x2 n ⟨k0, hk, hiv⟩ => ?_)⟩
        · simp only [wpX_choose]
          refine xx_urgentTask hN (xx_urgentServer hM ?_)
          rw [ek, eb]
          simp (disch := omega) only [nI_0, nI_clamp, zz_in, zz_m4, zz_m6, zz_m14, zz_m16, nI_add, zz_p0, zz_p1, zz_p2, zz_p3, zz_p4, zz_p5, zz_p6, zz_p7, zz_p8, zz_p9, zz_p10, zz_p11, zz_p12, zz_p13, zz_a16, true_and, forall_eq]
          exact br_f hsn (br_f (nI_pos (by omega)) (br_t w (hX post hp)))
        · obtain ⟨j', hj', ej', ek0⟩ := hk.resolve_left (zz_n9 (by omega))
          have ett : t = j' := (nI_eq (by omega) (by omega)).mp ej'
          subst ett
          rcases hiv with ⟨e, _, _⟩ | ⟨j, hj, e, e0, e1, _⟩ | ⟨j, hj, e, _, _, e1, _⟩
          · exact absurd e (zz_n9 (by omega))
          · have := inj s j (by omega) hj e
            subst this
            rcases e0 with e0 | e0
            · exact absurd e0 (zz_n9 (by omega))
            · rw [ek0] at e0
              exact absurd w (Int32.not_le.mpr e0)
          · subst e1
            exact hY' post n x2 hp
      · refine ⟨nI (16 + s), xst, xbl, yf, h, Or.inr (Or.inr ⟨s, hs, rfl, hql⟩), fun post hp => ?_, fun post hp => hY post (fun x1 x2 n ⟨k0, hk, hiv⟩ => ?_)⟩
        · simp only [wpX_choose]
          refine xx_urgentTask hN (xx_urgentServer hM ?_)
          rw [ek, eb]
          simp (disch := omega) only [nI_0, nI_clamp, zz_in, zz_m4, zz_m6, zz_m14, zz_m16, nI_add, zz_p0, zz_p1, zz_p2, zz_p3, zz_p4, zz_p5, zz_p6, zz_p7, zz_p8, zz_p9, zz_p10, zz_p11, zz_p12, zz_p13, zz_a16, true_and, forall_eq]
          exact br_f hsn (br_f (nI_pos (by omega)) (br_f w hp))
        · obtain ⟨j', hj', ej', ek0⟩ := hk.resolve_left (zz_n9 (by omega))
          have ett : t = j' := (nI_eq (by omega) (by omega)).mp ej'
          subst ett
          rcases hiv with ⟨e, _, _⟩ | ⟨j, hj, e, e0, e1, _⟩ | ⟨j, hj, e, _, e0, e1, _⟩
          · exact absurd e (zz_n9 (by omega))
          · have := inj s j (by omega) hj e
            subst this
            subst e1
            exact hserver s post n x2 hs hp
          · have := inj s j (by omega) hj e
            subst this
            rw [ek0] at e0
            exact absurd (Int32.not_lt.mp e0) w
end
section
/-! the relation as a whole; a tick; a run -/
variable {mT mS R mQ T N M K : Nat} {op : Int32} {xtr xcp xlo xpe xre xwc xus xst xln xdn xdu xnx xco xmi xwo xbl xsc xrs xun xfr xto xbu xsp xle xsd xex xql xqu xqt xfa : Nat → Int32} {yf ysec ysv yqu yqt ylg yfi : Nat → Int32}
def i_Rel (k : Nat) (u : SX) (v : SY) : Prop := ∃ (mT mS R mQ T N : Nat) (op : Int32) (M K : Nat) (xtr xcp xlo xpe xre xwc xus xst xln xdn xdu xnx xco xmi xwo xbl xsc xrs xun xfr xto xbu xsp xle xsd xex xql xqu xqt xfa yf ysec ysv yqu yqt ylg yfi : Nat → Int32), u = (nI mT, nI mS, nI R, nI mQ, nI T, nI N, op, nI M, nI K, xtr, xcp, xlo, xpe, xre, xwc, xus, xst, xln, xdn, xdu, xnx, xco, xmi, xwo, xbl, xsc, xrs, xun, xfr, xto, xbu, xsp, xle, xsd, xex, xql, xqu, xqt, xfa) ∧ v = (nI mT, nI mS, nI R, nI mQ, nI T, nI N, op, nI M, nI K, yf, ysec, ysv, yqu, yqt, xcp, xlo, ylg, yfi) ∧ zz_RR k mT mS R mQ T N op M K xtr xcp xlo xpe xre xwc xus xst xln xdn xdu xnx xco xmi xwo xbl xsc xrs xun xfr xto xbu xsp xle xsd xex xql xqu xqt xfa yf ysec ysv yqu yqt ylg yfi
theorem zz_el {k : Nat} {u : SX} {v : SY} {P : SX → SY → Prop} (h : ∀ (mT mS R mQ T N : Nat) (op : Int32) (M K : Nat) (xtr xcp xlo xpe xre xwc xus xst xln xdn xdu xnx xco xmi xwo xbl xsc xrs xun xfr xto xbu xsp xle xsd xex xql xqu xqt xfa yf ysec ysv yqu yqt ylg yfi : Nat → Int32), zz_RR k mT mS R mQ T N op M K xtr xcp xlo xpe xre xwc xus xst xln xdn xdu xnx xco xmi xwo xbl xsc xrs xun xfr xto xbu xsp xle xsd xex xql xqu xqt xfa yf ysec ysv yqu yqt ylg yfi → P (nI mT, nI mS, nI R, nI mQ, nI T, nI N, op, nI M, nI K, xtr, xcp, xlo, xpe, xre, xwc, xus, xst, xln, xdn, xdu, xnx, xco, xmi, xwo, xbl, xsc, xrs, xun, xfr, xto, xbu, xsp, xle, xsd, xex, xql, xqu, xqt, xfa) (nI mT, nI mS, nI R, nI mQ, nI T, nI N, op, nI M, nI K, yf, ysec, ysv, yqu, yqt, xcp, xlo, ylg, yfi)) (I : i_Rel k u v) : P u v :=
  Exists.elim I (fun mT I => Exists.elim I (fun mS I => Exists.elim I (fun R I => Exists.elim I (fun mQ I => Exists.elim I (fun T I => Exists.elim I (fun N I => Exists.elim I (fun op I => Exists.elim I (fun M I => Exists.elim I (fun K I => Exists.elim I (fun xtr I => Exists.elim I (fun xcp I => Exists.elim I (fun xlo I => Exists.elim I (fun xpe I => Exists.elim I (fun xre I => Exists.elim I (fun xwc I => Exists.elim I (fun xus I => Exists.elim I (fun xst I => Exists.elim I (fun xln I => Exists.elim I (fun xdn I => Exists.elim I (fun xdu I => Exists.elim I (fun xnx I => Exists.elim I (fun xco I => Exists.elim I (fun xmi I => Exists.elim I (fun xwo I => Exists.elim I (fun xbl I => Exists.elim I (fun xsc I => Exists.elim I (fun xrs I => Exists.elim I (fun xun I => Exists.elim I (fun xfr I => Exists.elim I (fun xto I => Exists.elim I (fun xbu I => Exists.elim I (fun xsp I => Exists.elim I (fun xle I => Exists.elim I (fun xsd I => Exists.elim I (fun xex I => Exists.elim I (fun xql I => Exists.elim I (fun xqu I => Exists.elim I (fun xqt I => Exists.elim I (fun xfa I => Exists.elim I (fun yf I => Exists.elim I (fun ysec I => Exists.elim I (fun ysv I => Exists.elim I (fun yqu I => Exists.elim I (fun yqt I => Exists.elim I (fun ylg I => Exists.elim I (fun yfi I => Eq.subst (motive := fun z => P z v) I.1.symm (Eq.subst (motive := fun z => P (nI mT, nI mS, nI R, nI mQ, nI T, nI N, op, nI M, nI K, xtr, xcp, xlo, xpe, xre, xwc, xus, xst, xln, xdn, xdu, xnx, xco, xmi, xwo, xbl, xsc, xrs, xun, xfr, xto, xbu, xsp, xle, xsd, xex, xql, xqu, xqt, xfa) z) I.2.1.symm (h mT mS R mQ T N op M K xtr xcp xlo xpe xre xwc xus xst xln xdn xdu xnx xco xmi xwo xbl xsc xrs xun xfr xto xbu xsp xle xsd xex xql xqu xqt xfa yf ysec ysv yqu yqt ylg yfi I.2.2))))))))))))))))))))))))))))))))))))))))))))))))
theorem zz_mk {k : Nat} (h : zz_RR k mT mS R mQ T N op M K xtr xcp xlo xpe xre xwc xus xst xln xdn xdu xnx xco xmi xwo xbl xsc xrs xun xfr xto xbu xsp xle xsd xex xql xqu xqt xfa yf ysec ysv yqu yqt ylg yfi) : i_Rel k (nI mT, nI mS, nI R, nI mQ, nI T, nI N, op, nI M, nI K, xtr, xcp, xlo, xpe, xre, xwc, xus, xst, xln, xdn, xdu, xnx, xco, xmi, xwo, xbl, xsc, xrs, xun, xfr, xto, xbu, xsp, xle, xsd, xex, xql, xqu, xqt, xfa) (nI mT, nI mS, nI R, nI mQ, nI T, nI N, op, nI M, nI K, yf, ysec, ysv, yqu, yqt, xcp, xlo, ylg, yfi) := ⟨mT, mS, R, mQ, T, N, op, M, K, xtr, xcp, xlo, xpe, xre, xwc, xus, xst, xln, xdn, xdu, xnx, xco, xmi, xwo, xbl, xsc, xrs, xun, xfr, xto, xbu, xsp, xle, xsd, xex, xql, xqu, xqt, xfa, yf, ysec, ysv, yqu, yqt, ylg, yfi, rfl, rfl, h⟩
theorem zz_up {k : Nat} (h : zz_RR k mT mS R mQ T N op M K xtr xcp xlo xpe xre xwc xus xst xln xdn xdu xnx xco xmi xwo xbl xsc xrs xun xfr xto xbu xsp xle xsd xex xql xqu xqt xfa yf ysec ysv yqu yqt ylg yfi) : zz_RR (k + 5) mT mS R mQ T N op M K xtr xcp xlo xpe xre xwc xus xst xln xdn xdu xnx xco xmi xwo xbl xsc xrs xun xfr xto xbu xsp xle xsd xex xql xqu xqt xfa yf ysec ysv yqu yqt ylg yfi := by
  obtain ⟨⟨b1, b2, b3, b4, b5, b6, b7, b8, b9, b10⟩, h⟩ := h
  exact ⟨⟨b1, b2, b3, b4, b5, b6, b7, by omega, b9, b10⟩, h⟩
theorem i_up {k : Nat} {u : SX} {v : SY} (h : i_Rel k u v) : i_Rel (k + 5) u v :=
  zz_el (P := fun u v => i_Rel (k + 5) u v) (fun mT mS R mQ T N op M K xtr xcp xlo xpe xre xwc xus xst xln xdn xdu xnx xco xmi xwo xbl xsc xrs xun xfr xto xbu xsp xle xsd xex xql xqu xqt xfa yf ysec ysv yqu yqt ylg yfi hR => zz_mk (zz_up hR)) h
theorem ph_80 (hN : N ≤ 6) (h : zz_TF N op xpe xre xwc xus xst xln xdn xdu xnx xco xmi xwo xbl xsc yf) : ∃ (xst' xmi' xln' xdn' xdu' xnx' yf' : Nat → Int32), zz_TF N op xpe xre xwc xus xst' xln' xdn' xdu' xnx' xco xmi' xwo xbl xsc yf' ∧ (∀ post : SX → Prop, post (nI mT, nI mS, nI R, nI mQ, nI T, nI N, op, nI M, nI K, xtr, xcp, xlo, xpe, xre, xwc, xus, xst', xln', xdn', xdu', xnx', xco, xmi', xwo, xbl, xsc, xrs, xun, xfr, xto, xbu, xsp, xle, xsd, xex, xql, xqu, xqt, xfa) → wX_tick_80 post (nI mT) (nI mS) (nI R) (nI mQ) (nI T) (nI N) op (nI M) (nI K) xtr xcp xlo xpe xre xwc xus xst xln xdn xdu xnx xco xmi xwo xbl xsc xrs xun xfr xto xbu xsp xle xsd xex xql xqu xqt xfa) ∧ (∀ post : SY → Prop, post (nI mT, nI mS, nI R, nI mQ, nI T, nI N, op, nI M, nI K, yf', ysec, ysv, yqu, yqt, xcp, xlo, ylg, yfi) → ∃ n694 : Nat, wY_tick_694 post (nI mT) (nI mS) (nI R) (nI mQ) (nI T) (nI N) op (nI M) (nI K) n694 0 yf ysec ysv yqu yqt xcp xlo ylg yfi) := by
  obtain ⟨xst1, xmi1, yf1, h1, hX1, hY1⟩ := ph_drop (mT := mT) (mS := mS) (R := R) (mQ := mQ) (T := T) (N := N) (op := op) (M := M) (K := K) (xtr := xtr) (xcp := xcp) (xlo := xlo) (xpe := xpe) (xre := xre) (xwc := xwc) (xus := xus) (xln := xln) (xdn := xdn) (xdu := xdu) (xnx := xnx) (xco := xco) (xwo := xwo) (xbl := xbl) (xsc := xsc) (xrs := xrs) (xun := xun) (xfr := xfr) (xto := xto) (xbu := xbu) (xsp := xsp) (xle := xle) (xsd := xsd) (xex := xex) (xql := xql) (xqu := xqu) (xqt := xqt) (xfa := xfa) (ysec := ysec) (ysv := ysv) (yqu := yqu) (yqt := yqt) (ylg := ylg) (yfi := yfi) hN N 0 xst xmi yf (Nat.zero_add _) h
  obtain ⟨xst2, xln2, xdn2, xdu2, xnx2, yf2, h2, hX2, hY2⟩ := ph_rel (mT := mT) (mS := mS) (R := R) (mQ := mQ) (T := T) (N := N) (op := op) (M := M) (K := K) (xtr := xtr) (xcp := xcp) (xlo := xlo) (xpe := xpe) (xre := xre) (xwc := xwc) (xus := xus) (xco := xco) (xmi := xmi1) (xwo := xwo) (xbl := xbl) (xsc := xsc) (xrs := xrs) (xun := xun) (xfr := xfr) (xto := xto) (xbu := xbu) (xsp := xsp) (xle := xle) (xsd := xsd) (xex := xex) (xql := xql) (xqu := xqu) (xqt := xqt) (xfa := xfa) (ysec := ysec) (ysv := ysv) (yqu := yqu) (yqt := yqt) (ylg := ylg) (yfi := yfi) hN N 0 xst1 xln xdn xdu xnx yf1 (Nat.zero_add _) h1
  refine ⟨xst2, xmi1, xln2, xdn2, xdu2, xnx2, yf2, h2, fun post hp => ?_, fun post hp => ⟨N + 1, hY1 post ⟨N + 1, hY2 post hp⟩⟩⟩
  unfold wX_tick_80
  show ∃ n2 : Nat, wX_dropLateJobs_2 _ (nI mT) (nI mS) (nI R) (nI mQ) (nI T) (nI N) op (nI M) (nI K) n2 0 xtr xcp xlo xpe xre xwc xus xst xln xdn xdu xnx xco xmi xwo xbl xsc xrs xun xfr xto xbu xsp xle xsd xex xql xqu xqt xfa
  refine ⟨N + 1, hX1 _ ?_⟩
  show ∃ n2 : Nat, wX_releaseJobs_2 _ n2 0 (nI mT) (nI mS) (nI R) (nI mQ) (nI T) (nI N) op (nI M) (nI K) xtr xcp xlo xpe xre xwc xus xst1 xln xdn xdu xnx xco xmi1 xwo xbl xsc xrs xun xfr xto xbu xsp xle xsd xex xql xqu xqt xfa
  exact ⟨N + 1, hX2 _ hp⟩
theorem ph_tick {k : Nat} (hk : k ≤ 2564) (hT : T < 10000) (h : zz_RR k mT mS R mQ T N op M K xtr xcp xlo xpe xre xwc xus xst xln xdn xdu xnx xco xmi xwo xbl xsc xrs xun xfr xto xbu xsp xle xsd xex xql xqu xqt xfa yf ysec ysv yqu yqt ylg yfi) : ∃ (u' : SX) (v' : SY), i_Rel k u' v' ∧ (∀ post : SX → Prop, post u' → wpX_tick post (nI mT, nI mS, nI R, nI mQ, nI T, nI N, op, nI M, nI K, xtr, xcp, xlo, xpe, xre, xwc, xus, xst, xln, xdn, xdu, xnx, xco, xmi, xwo, xbl, xsc, xrs, xun, xfr, xto, xbu, xsp, xle, xsd, xex, xql, xqu, xqt, xfa)) ∧ (∀ post : SY → Prop, post v' → wpY_tick post (nI mT, nI mS, nI R, nI mQ, nI T, nI N, op, nI M, nI K, yf, ysec, ysv, yqu, yqt, xcp, xlo, ylg, yfi)) := by
  obtain ⟨⟨b1, b2, b3, b4, b5, b6, b7, b8, b9, b10⟩, hF, hG, hS, hV, hQ, hL, hN⟩ := h
  obtain ⟨r, xst1, xbl1, yf1, hF1, hr, hX1, hY1⟩ := ph_choose (mT := mT) (mS := mS) (R := R) (mQ := mQ) (T := T) (N := N) (op := op) (M := M) (K := K) (xtr := xtr) (xcp := xcp) (xlo := xlo) (xpe := xpe) (xre := xre) (xwc := xwc) (xus := xus) (xst := xst) (xln := xln) (xdn := xdn) (xdu := xdu) (xnx := xnx) (xco := xco) (xmi := xmi) (xwo := xwo) (xbl := xbl) (xsc := xsc) (xrs := xrs) (xun := xun) (xfr := xfr) (xto := xto) (xbu := xbu) (xsp := xsp) (xle := xle) (xsd := xsd) (xex := xex) (xql := xql) (xqu := xqu) (xqt := xqt) (xfa := xfa) (yf := yf) (ysec := ysec) (ysv := ysv) (yqu := yqu) (yqt := yqt) (ylg := ylg) (yfi := yfi) (by omega) b3 (by omega) hF hG hS hV
  rcases hr with hr | ⟨t, ht, hr⟩ | ⟨s, hs, hr, hql⟩
  · subst hr
    obtain ⟨xst2, xmi2, xln2, xdn2, xdu2, xnx2, yf2, hF2, hX2, hY2⟩ := ph_80 (mT := mT) (mS := mS) (R := R) (mQ := mQ) (T := T + 1) (N := N) (op := op) (M := M) (K := K) (xtr := upd xtr (T % 64) (-9)) (xcp := xcp) (xlo := xlo) (xpe := xpe) (xre := xre) (xwc := xwc) (xus := xus) (xst := xst1) (xln := xln) (xdn := xdn) (xdu := xdu) (xnx := xnx) (xco := xco) (xmi := xmi) (xwo := xwo) (xbl := xbl1) (xsc := xsc) (xrs := xrs) (xun := xun) (xfr := xfr) (xto := xto) (xbu := xbu) (xsp := xsp) (xle := xle) (xsd := xsd) (xex := xex) (xql := xql) (xqu := xqu) (xqt := xqt) (xfa := xfa) (yf := yf1) (ysec := ysec) (ysv := ysv) (yqu := yqu) (yqt := yqt) (ylg := upd ylg T (-9)) (yfi := yfi) (by omega) hF1
    refine ⟨_, _, zz_mk (mT := mT) (mS := mS) (R := R) (mQ := mQ) (T := T + 1) (N := N) (op := op) (M := M) (K := K) (xtr := upd xtr (T % 64) (-9)) (xcp := xcp) (xlo := xlo) (xpe := xpe) (xre := xre) (xwc := xwc) (xus := xus) (xst := xst2) (xln := xln2) (xdn := xdn2) (xdu := xdu2) (xnx := xnx2) (xco := xco) (xmi := xmi2) (xwo := xwo) (xbl := xbl1) (xsc := xsc) (xrs := xrs) (xun := xun) (xfr := xfr) (xto := xto) (xbu := xbu) (xsp := xsp) (xle := xle) (xsd := xsd) (xex := xex) (xql := xql) (xqu := xqu) (xqt := xqt) (xfa := xfa) (yf := yf2) (ysec := ysec) (ysv := ysv) (yqu := yqu) (yqt := yqt) (ylg := upd ylg T (-9)) (yfi := yfi) ⟨⟨b1, b2, b3, b4, by omega, b6, b7, b8, b9, b10⟩, hF2, hG, hS, hV, hQ, rl_step hL, hN⟩, fun post hp => ?_, fun post hp => hY1 post ?_⟩
    · simp only [wpX_tick]
      refine hX1 _ ?_
      exact br_t (by decide) (br_t (by decide) (xx_t31_idle hT (hX2 post hp)))
    · unfold wY_tick_297
      exact br_t (by decide) (br_t (by decide) (yy_t531_idle hT (hY2 post hp)))
  · subst hr
    obtain ⟨xst2, xco2, xwo2, yf2, hF2, hX2, hY2⟩ := ph_task (mT := mT) (mS := mS) (R := R) (mQ := mQ) (T := T) (N := N) (op := op) (M := M) (K := K) (xtr := xtr) (xcp := xcp) (xlo := zz_fold (zz_low (zz_rest xcp xst1 xdn xsc xrs xun xfr xto N t)) R 0 xlo) (xpe := xpe) (xre := xre) (xwc := xwc) (xus := xus) (xst := xst1) (xln := xln) (xdn := upd xdn t (xdn t + 1)) (xdu := xdu) (xnx := xnx) (xco := xco) (xmi := xmi) (xwo := xwo) (xbl := xbl1) (xsc := xsc) (xrs := xrs) (xun := xun) (xfr := xfr) (xto := xto) (xbu := xbu) (xsp := xsp) (xle := xle) (xsd := xsd) (xex := xex) (xql := xql) (xqu := xqu) (xqt := xqt) (xfa := xfa) (yf := upd yf1 (14 * t + 6) (xdn t + 1)) (ysec := ysec) (ysv := ysv) (yqu := yqu) (yqt := yqt) (ylg := ylg) (yfi := yfi) ht (by omega) hT (tf_u6 (v := xdn t + 1) ht hF1)
    obtain ⟨xst3, xmi3, xln3, xdn3, xdu3, xnx3, yf3, hF3, hX3, hY3⟩ := ph_80 (mT := mT) (mS := mS) (R := R) (mQ := mQ) (T := T + 1) (N := N) (op := op) (M := M) (K := K) (xtr := upd xtr (T % 64) (nI t)) (xcp := xcp) (xlo := zz_fold (zz_low (zz_rest xcp xst1 xdn xsc xrs xun xfr xto N t)) R 0 xlo) (xpe := xpe) (xre := xre) (xwc := xwc) (xus := xus) (xst := xst2) (xln := xln) (xdn := upd xdn t (xdn t + 1)) (xdu := xdu) (xnx := xnx) (xco := xco2) (xmi := xmi) (xwo := xwo2) (xbl := xbl1) (xsc := xsc) (xrs := xrs) (xun := xun) (xfr := xfr) (xto := xto) (xbu := xbu) (xsp := xsp) (xle := xle) (xsd := xsd) (xex := xex) (xql := xql) (xqu := xqu) (xqt := xqt) (xfa := xfa) (yf := yf2) (ysec := ysec) (ysv := ysv) (yqu := yqu) (yqt := yqt) (ylg := upd ylg T (nI t)) (yfi := yfi) (by omega) hF2
    refine ⟨_, _, zz_mk (mT := mT) (mS := mS) (R := R) (mQ := mQ) (T := T + 1) (N := N) (op := op) (M := M) (K := K) (xtr := upd xtr (T % 64) (nI t)) (xcp := xcp) (xlo := zz_fold (zz_low (zz_rest xcp xst1 xdn xsc xrs xun xfr xto N t)) R 0 xlo) (xpe := xpe) (xre := xre) (xwc := xwc) (xus := xus) (xst := xst3) (xln := xln3) (xdn := xdn3) (xdu := xdu3) (xnx := xnx3) (xco := xco2) (xmi := xmi3) (xwo := xwo2) (xbl := xbl1) (xsc := xsc) (xrs := xrs) (xun := xun) (xfr := xfr) (xto := xto) (xbu := xbu) (xsp := xsp) (xle := xle) (xsd := xsd) (xex := xex) (xql := xql) (xqu := xqu) (xqt := xqt) (xfa := xfa) (yf := yf3) (ysec := ysec) (ysv := ysv) (yqu := yqu) (yqt := yqt) (ylg := upd ylg T (nI t)) (yfi := yfi) ⟨⟨b1, b2, b3, b4, by omega, b6, b7, b8, b9, b10⟩, hF3, hG, hS, hV, hQ, rl_step hL, hN⟩, fun post hp => ?_, fun post hp => hY1 post (yy_execute ht (by omega) b3 hG.1 (tf_fq hF1) hS (hY2 post (hY3 post hp)))⟩
    simp only [wpX_tick]
    refine hX1 _ ?_
    exact br_t (nI_lt (b := 16) (by omega) (by decide)) (br_f (nI_pos (by omega)) (xx_execute ht (by omega) b3 hG.1 (hX2 post (hX3 post hp))))
  · subst hr
    have hs3 : s < 3 := by omega
    have g1 : yqu (6 * s) = xqu (6 * s) := by
      obtain ⟨c, hc, ec⟩ := zz_nat_ex (hQ s hs3).1
      have hc0 : 0 < c := by
        rcases Nat.eq_zero_or_pos c with z | z
        · subst z
          rw [ec] at hql
          exact absurd (by decide) hql
        · exact z
      exact ((hQ s hs3).2 0 (by rw [ec, zc_nI (by omega)]; omega)).1
    obtain ⟨xle2, xsd2, xex2, xql2, xqu2, xqt2, xfa2, ysv2, yqu2, yqt2, yfi2, hV2, hQ2, hN2, hX2, hY2⟩ := ph_server (mT := mT) (mS := mS) (R := R) (mQ := mQ) (T := T) (N := N) (op := op) (M := M) (K := K) (xtr := xtr) (xcp := xcp) (xlo := xlo) (xpe := xpe) (xre := xre) (xwc := xwc) (xus := xus) (xst := xst1) (xln := xln) (xdn := xdn) (xdu := xdu) (xnx := xnx) (xco := xco) (xmi := xmi) (xwo := xwo) (xbl := xbl1) (xsc := xsc) (xrs := xrs) (xun := xun) (xfr := xfr) (xto := xto) (xbu := xbu) (xsp := xsp) (xle := upd xle s (xle s - 1)) (xsd := xsd) (xex := xex) (xql := xql) (xqu := upd xqu (6 * s) (xqu (6 * s) - 1)) (xqt := xqt) (xfa := xfa) (yf := yf1) (ysec := ysec) (ysv := upd ysv (6 * s + 2) (xle s - 1)) (yqu := upd yqu (6 * s) (xqu (6 * s) - 1)) (yqt := yqt) (ylg := ylg) (yfi := yfi) hs (by omega) hT b4 (by omega) hql (rv_u2 (v := xle s - 1) hs hV) (rq_serve hs3 b4 hQ) hN
    obtain ⟨xst3, xmi3, xln3, xdn3, xdu3, xnx3, yf3, hF3, hX3, hY3⟩ := ph_80 (mT := mT) (mS := mS) (R := R) (mQ := mQ) (T := T + 1) (N := N) (op := op) (M := M) (K := K) (xtr := upd xtr (T % 64) (nI (16 + s))) (xcp := xcp) (xlo := xlo) (xpe := xpe) (xre := xre) (xwc := xwc) (xus := xus) (xst := xst1) (xln := xln) (xdn := xdn) (xdu := xdu) (xnx := xnx) (xco := xco) (xmi := xmi) (xwo := xwo) (xbl := xbl1) (xsc := xsc) (xrs := xrs) (xun := xun) (xfr := xfr) (xto := xto) (xbu := xbu) (xsp := xsp) (xle := xle2) (xsd := xsd2) (xex := xex2) (xql := xql2) (xqu := xqu2) (xqt := xqt2) (xfa := xfa2) (yf := yf1) (ysec := ysec) (ysv := ysv2) (yqu := yqu2) (yqt := yqt2) (ylg := upd ylg T (nI (16 + s))) (yfi := yfi2) (by omega) hF1
    refine ⟨_, _, zz_mk (mT := mT) (mS := mS) (R := R) (mQ := mQ) (T := T + 1) (N := N) (op := op) (M := M) (K := K) (xtr := upd xtr (T % 64) (nI (16 + s))) (xcp := xcp) (xlo := xlo) (xpe := xpe) (xre := xre) (xwc := xwc) (xus := xus) (xst := xst3) (xln := xln3) (xdn := xdn3) (xdu := xdu3) (xnx := xnx3) (xco := xco) (xmi := xmi3) (xwo := xwo) (xbl := xbl1) (xsc := xsc) (xrs := xrs) (xun := xun) (xfr := xfr) (xto := xto) (xbu := xbu) (xsp := xsp) (xle := xle2) (xsd := xsd2) (xex := xex2) (xql := xql2) (xqu := xqu2) (xqt := xqt2) (xfa := xfa2) (yf := yf3) (ysec := ysec) (ysv := ysv2) (yqu := yqu2) (yqt := yqt2) (ylg := upd ylg T (nI (16 + s))) (yfi := yfi2) ⟨⟨b1, b2, b3, b4, by omega, b6, b7, b8, b9, b10⟩, hF3, hG, hS, hV2, hQ2, rl_step hL, hN2⟩, fun post hp => ?_, fun post hp => hY1 post (yy_serve hs (by omega) hV g1 (hY2 post (hY3 post hp)))⟩
    simp only [wpX_tick]
    refine hX1 _ ?_
    refine br_f (nI_nlt (b := 16) (by omega) (by omega)) ?_
    rw [zz_s16]
    exact xx_serve hs3 (hX2 post (hX3 post hp))
/-- the reference at the end of time -/
theorem yy_run_end {post : Int32 → SY → Prop} {c : Nat} {p : Int32} (hc : c ≤ 32) (hT : T = 10000) (h : post p (nI mT, nI mS, nI R, nI mQ, nI T, nI N, op, nI M, nI K, yf, ysec, ysv, yqu, yqt, xcp, xlo, ylg, yfi)) : ∀ d i : Nat, i + d = c → wY_run_17 post (nI c) (d + 1) p (nI i) (nI mT) (nI mS) (nI R) (nI mQ) (nI T) (nI N) op (nI M) (nI K) yf ysec ysv yqu yqt xcp xlo ylg yfi := by
  intro d
  induction d with
  | zero =>
    intro i hi
    have e : i = c := by omega
    subst e
    rw [wY_run_17]
    exact br_t (Int32.le_refl _) h
  | succ d ih =>
    intro i hi
    rw [wY_run_17]
    exact br_f (nI_ge (by omega) (by omega)) (br_t (nI_le (a := 10000) (by omega) (by omega)) (nm_r (nI_1 i) (ih (i + 1) (by omega))))
theorem ph_run {k c : Nat} (hk : k ≤ 2564) (hc : c ≤ 32) : ∀ (d i p : Nat) (mT mS R mQ T N : Nat) (op : Int32) (M K : Nat) (xtr xcp xlo xpe xre xwc xus xst xln xdn xdu xnx xco xmi xwo xbl xsc xrs xun xfr xto xbu xsp xle xsd xex xql xqu xqt xfa yf ysec ysv yqu yqt ylg yfi : Nat → Int32), i + d = c → zz_RR k mT mS R mQ T N op M K xtr xcp xlo xpe xre xwc xus xst xln xdn xdu xnx xco xmi xwo xbl xsc xrs xun xfr xto xbu xsp xle xsd xex xql xqu xqt xfa yf ysec ysv yqu yqt ylg yfi → ∃ (p' : Int32) (u' : SX) (v' : SY), i_Rel k u' v' ∧ (∀ post : Int32 → SX → Prop, post p' u' → wX_run_17 post (nI c) (d + 1) (nI p) (nI i) (nI mT) (nI mS) (nI R) (nI mQ) (nI T) (nI N) op (nI M) (nI K) xtr xcp xlo xpe xre xwc xus xst xln xdn xdu xnx xco xmi xwo xbl xsc xrs xun xfr xto xbu xsp xle xsd xex xql xqu xqt xfa) ∧ (∀ post : Int32 → SY → Prop, post p' v' → wY_run_17 post (nI c) (d + 1) (nI p) (nI i) (nI mT) (nI mS) (nI R) (nI mQ) (nI T) (nI N) op (nI M) (nI K) yf ysec ysv yqu yqt xcp xlo ylg yfi) := by
  intro d
  induction d with
  | zero =>
    intro i p mT mS R mQ T N op M K xtr xcp xlo xpe xre xwc xus xst xln xdn xdu xnx xco xmi xwo xbl xsc xrs xun xfr xto xbu xsp xle xsd xex xql xqu xqt xfa yf ysec ysv yqu yqt ylg yfi hi h
    have e : i = c := by omega
    subst e
    refine ⟨nI p, _, _, zz_mk h, fun post hp => ?_, fun post hp => ?_⟩
    · rw [wX_run_17]
      exact br_t (Int32.le_refl _) hp
    · rw [wY_run_17]
      exact br_t (Int32.le_refl _) hp
  | succ d ih =>
    intro i p mT mS R mQ T N op M K xtr xcp xlo xpe xre xwc xus xst xln xdn xdu xnx xco xmi xwo xbl xsc xrs xun xfr xto xbu xsp xle xsd xex xql xqu xqt xfa yf ysec ysv yqu yqt ylg yfi hi h
    have hT : T ≤ 10000 := h.1.2.2.2.2.1
    have hlt : ¬ nI c ≤ nI i := nI_ge (by omega) (by omega)
    by_cases q : T = 10000
    · refine ⟨nI p, _, _, zz_mk h, fun post hp => ?_, fun post hp => yy_run_end hc q hp (d + 1) i hi⟩
      rw [wX_run_17]
      exact br_f hlt (br_t (nI_le (a := 10000) (by omega) (by omega)) hp)
    · have hTn : ¬ (10000 : Int32) ≤ nI T := nI_ge (b := 10000) (by omega) (by decide)
      obtain ⟨u1, v1, I1, hX1, hY1⟩ := ph_tick hk (by omega) h
      have main : ∀ (u : SX) (v : SY), i_Rel k u v → (∀ post : SX → Prop, post u → wpX_tick post (nI mT, nI mS, nI R, nI mQ, nI T, nI N, op, nI M, nI K, xtr, xcp, xlo, xpe, xre, xwc, xus, xst, xln, xdn, xdu, xnx, xco, xmi, xwo, xbl, xsc, xrs, xun, xfr, xto, xbu, xsp, xle, xsd, xex, xql, xqu, xqt, xfa)) → (∀ post : SY → Prop, post v → wpY_tick post (nI mT, nI mS, nI R, nI mQ, nI T, nI N, op, nI M, nI K, yf, ysec, ysv, yqu, yqt, xcp, xlo, ylg, yfi)) → ∃ (p' : Int32) (u' : SX) (v' : SY), i_Rel k u' v' ∧ (∀ post : Int32 → SX → Prop, post p' u' → wX_run_17 post (nI c) (d + 1 + 1) (nI p) (nI i) (nI mT) (nI mS) (nI R) (nI mQ) (nI T) (nI N) op (nI M) (nI K) xtr xcp xlo xpe xre xwc xus xst xln xdn xdu xnx xco xmi xwo xbl xsc xrs xun xfr xto xbu xsp xle xsd xex xql xqu xqt xfa) ∧ (∀ post : Int32 → SY → Prop, post p' v' → wY_run_17 post (nI c) (d + 1 + 1) (nI p) (nI i) (nI mT) (nI mS) (nI R) (nI mQ) (nI T) (nI N) op (nI M) (nI K) yf ysec ysv yqu yqt xcp xlo ylg yfi) := by
        intro u v I
        refine zz_el (P := fun u v => (∀ post : SX → Prop, post u → wpX_tick post (nI mT, nI mS, nI R, nI mQ, nI T, nI N, op, nI M, nI K, xtr, xcp, xlo, xpe, xre, xwc, xus, xst, xln, xdn, xdu, xnx, xco, xmi, xwo, xbl, xsc, xrs, xun, xfr, xto, xbu, xsp, xle, xsd, xex, xql, xqu, xqt, xfa)) → (∀ post : SY → Prop, post v → wpY_tick post (nI mT, nI mS, nI R, nI mQ, nI T, nI N, op, nI M, nI K, yf, ysec, ysv, yqu, yqt, xcp, xlo, ylg, yfi)) → ∃ (p' : Int32) (u' : SX) (v' : SY), i_Rel k u' v' ∧ (∀ post : Int32 → SX → Prop, post p' u' → wX_run_17 post (nI c) (d + 1 + 1) (nI p) (nI i) (nI mT) (nI mS) (nI R) (nI mQ) (nI T) (nI N) op (nI M) (nI K) xtr xcp xlo xpe xre xwc xus xst xln xdn xdu xnx xco xmi xwo xbl xsc xrs xun xfr xto xbu xsp xle xsd xex xql xqu xqt xfa) ∧ (∀ post : Int32 → SY → Prop, post p' v' → wY_run_17 post (nI c) (d + 1 + 1) (nI p) (nI i) (nI mT) (nI mS) (nI R) (nI mQ) (nI T) (nI N) op (nI M) (nI K) yf ysec ysv yqu yqt xcp xlo ylg yfi)) ?_ I
        intro mT' mS' R' mQ' T' N' op' M' K' xtr' xcp' xlo' xpe' xre' xwc' xus' xst' xln' xdn' xdu' xnx' xco' xmi' xwo' xbl' xsc' xrs' xun' xfr' xto' xbu' xsp' xle' xsd' xex' xql' xqu' xqt' xfa' yf' ysec' ysv' yqu' yqt' ylg' yfi' h' hX hY
        obtain ⟨p', u', v', I', hX', hY'⟩ := ih (i + 1) (p + 1) _ _ _ _ _ _ _ _ _ _ _ _ _ _ _ _ _ _ _ _ _ _ _ _ _ _ _ _ _ _ _ _ _ _ _ _ _ _ _ _ _ _ _ _ _ _ (by omega) h'
        refine ⟨p', u', v', I', fun post hp => ?_, fun post hp => ?_⟩
        · rw [wX_run_17]
          refine br_f hlt (br_f hTn (hX _ ?_))
          exact nm_r (nI_1 p) (nm_r (nI_1 i) (hX' post hp))
        · rw [wY_run_17]
          refine br_f hlt (br_f hTn (hY _ ?_))
          exact nm_r (nI_1 p) (nm_r (nI_1 i) (hY' post hp))
      exact main u1 v1 I1 hX1 hY1
end
section
/-! the owed statements: calls that only read -/
variable {mT mS R mQ T N M K : Nat} {op : Int32} {xtr xcp xlo xpe xre xwc xus xst xln xdn xdu xnx xco xmi xwo xbl xsc xrs xun xfr xto xbu xsp xle xsd xex xql xqu xqt xfa : Nat → Int32} {yf ysec ysv yqu yqt ylg yfi : Nat → Int32}
theorem yr_bad {x y : Int32} {A B : Prop} (z : x < 0 ∨ y ≤ x) (a : A) : (x < 0 → A) ∧ (¬ x < 0 → ((x < y → B) ∧ (¬ x < y → A))) :=
  ⟨fun _ => a, fun n => ⟨fun l => (z.elim (fun z => absurd z n) (fun z => absurd l (Int32.not_lt.mpr z))), fun _ => a⟩⟩
theorem yr_bad2 {x y : Int32} {A B : Prop} (z : x < 0 ∨ y ≤ x) (a : A) : (x < 0 → A) ∧ (¬ x < 0 → ((y ≤ x → A) ∧ (¬ y ≤ x → B))) :=
  ⟨fun _ => a, fun n => ⟨fun _ => a, fun l => (z.elim (fun z => absurd z n) (fun z => absurd z l))⟩⟩
theorem zz_ceq (hN : N ≤ 6) (hG : zz_RG xre xwc xsc xun xfr xto) : zz_cX xre (zz_need xsc xrs xun) (zz_free xcp (zz_hb xst xdn xsc xrs xun xfr xto) N) N R = zz_cY xre (zz_need xsc xrs xun) (zz_free xcp (zz_hb xst xdn xsc xrs xun xfr xto) N) N R :=
  zz_ceil_eq (fun k hk z => by
    obtain ⟨x, hx, ex⟩ := zz_nat_ex (hG.2.1 k (by omega))
    rw [ex] at z
    exact zz_n6 (by omega) z)
theorem i_vc_now {k : Nat} {u : SX} {v : SY} (I : i_Rel k u v) (hk : k + 5 ≤ 2564) : wpX_now (fun r => wpY_now (fun r' => r' = r ∧ i_Rel (k + 5) u v) v) u := by
  refine zz_el (P := fun u v => wpX_now (fun r => wpY_now (fun r' => r' = r ∧ i_Rel (k + 5) u v) v) u) ?_ I
  intro mT mS R mQ T N op M K xtr xcp xlo xpe xre xwc xus xst xln xdn xdu xnx xco xmi xwo xbl xsc xrs xun xfr xto xbu xsp xle xsd xex xql xqu xqt xfa yf ysec ysv yqu yqt ylg yfi hR
  have J := zz_mk (zz_up hR)
  obtain ⟨⟨b1, b2, b3, b4, b5, b6, b7, b8, b9, b10⟩, hF, hG, hS, hV, hQ, hL, hN⟩ := hR
  exact And.intro rfl J
theorem i_vc_ran {k : Nat} {u : SX} {v : SY} (I : i_Rel k u v) (hk : k + 5 ≤ 2564) (v1 : Int32) : wpX_ran (fun r => wpY_ran (fun r' => r' = r ∧ i_Rel (k + 5) u v) v v1) u v1 := by
  refine zz_el (P := fun u v => wpX_ran (fun r => wpY_ran (fun r' => r' = r ∧ i_Rel (k + 5) u v) v v1) u v1) ?_ I
  intro mT mS R mQ T N op M K xtr xcp xlo xpe xre xwc xus xst xln xdn xdu xnx xco xmi xwo xbl xsc xrs xun xfr xto xbu xsp xle xsd xex xql xqu xqt xfa yf ysec ysv yqu yqt ylg yfi hR
  have J := zz_mk (zz_up hR)
  obtain ⟨⟨b1, b2, b3, b4, b5, b6, b7, b8, b9, b10⟩, hF, hG, hS, hV, hQ, hL, hN⟩ := hR
  simp only [wpX_ran, wpY_ran]
  by_cases a : v1 < 0
  · exact br_t a (br_t a (by first | exact J | exact ⟨rfl, J⟩ | exact ⟨trivial, J⟩))
  · obtain ⟨j, hj, rfl⟩ := nI_of a
    by_cases b : j < 64
    · have b64 : nI j < 64 := nI_lt (b := 64) b (by decide)
      have c64 : ¬ (64 : Int32) ≤ nI j := nI_ge (b := 64) b (by decide)
      by_cases c : j < T
      · have e : nI T - 1 - nI j = nI (T - 1 - j) := by
          rw [show (1 : Int32) = nI 1 from rfl, pk_sub (by omega), pk_sub (by omega)]
        rw [e, zz_and63 _ (by omega), nI_clamp (by omega), nI_clamp (by omega)]
        exact br_f a (br_t b64 (br_t (nI_lt c (by omega)) ⟨vp_in_nI (by omega) (by omega), br_f a (br_f c64 (br_t (nI_lt c (by omega)) ⟨vp_in_nI (by omega) (by omega), (hL (T - 1 - j) (by omega) (by omega)).symm, J⟩))⟩))
      · have c' : ¬ nI j < nI T := nI_nlt (by omega) hj
        exact br_f a (br_t b64 (br_f c' (br_f a (br_f c64 (br_f c' (by first | exact J | exact ⟨rfl, J⟩ | exact ⟨trivial, J⟩))))))
    · exact br_f a (br_f (nI_nlt (b := 64) (by omega) hj) (br_f a (br_t (nI_le (a := 64) (by omega) hj) (by first | exact J | exact ⟨rfl, J⟩ | exact ⟨trivial, J⟩))))
theorem i_vc_ceiling {k : Nat} {u : SX} {v : SY} (I : i_Rel k u v) (hk : k + 5 ≤ 2564) : wpX_ceiling (fun r => wpY_ceiling (fun r' => r' = r ∧ i_Rel (k + 5) u v) v) u := by
  refine zz_el (P := fun u v => wpX_ceiling (fun r => wpY_ceiling (fun r' => r' = r ∧ i_Rel (k + 5) u v) v) u) ?_ I
  intro mT mS R mQ T N op M K xtr xcp xlo xpe xre xwc xus xst xln xdn xdu xnx xco xmi xwo xbl xsc xrs xun xfr xto xbu xsp xle xsd xex xql xqu xqt xfa yf ysec ysv yqu yqt ylg yfi hR
  have J := zz_mk (zz_up hR)
  obtain ⟨⟨b1, b2, b3, b4, b5, b6, b7, b8, b9, b10⟩, hF, hG, hS, hV, hQ, hL, hN⟩ := hR
  exact xx_ceiling b3 (by omega) hG.1 (yy_ceiling b3 (by omega) hG.1 (tf_fq hF) hS ⟨(zz_ceq (by omega) hG).symm, J⟩)
theorem i_vc_capacity {k : Nat} {u : SX} {v : SY} (I : i_Rel k u v) (hk : k + 5 ≤ 2564) (v1 : Int32) : wpX_capacity (fun r => wpY_capacity (fun r' => r' = r ∧ i_Rel (k + 5) u v) v v1) u v1 := by
  refine zz_el (P := fun u v => wpX_capacity (fun r => wpY_capacity (fun r' => r' = r ∧ i_Rel (k + 5) u v) v v1) u v1) ?_ I
  intro mT mS R mQ T N op M K xtr xcp xlo xpe xre xwc xus xst xln xdn xdu xnx xco xmi xwo xbl xsc xrs xun xfr xto xbu xsp xle xsd xex xql xqu xqt xfa yf ysec ysv yqu yqt ylg yfi hR
  have J := zz_mk (zz_up hR)
  obtain ⟨⟨b1, b2, b3, b4, b5, b6, b7, b8, b9, b10⟩, hF, hG, hS, hV, hQ, hL, hN⟩ := hR
  simp only [wpX_capacity, wpY_capacity]
  refine xx_isResource b3 (fun j hj e => ?_) (fun z => br_t (by trivial) (yr_bad z (by first | exact J | exact ⟨rfl, J⟩ | exact ⟨trivial, J⟩)))
  subst e
  exact br_f (by decide) ⟨vp_in_nI (by omega) (by omega), br_f (nI_pos (by omega)) (br_t (nI_lt hj (by omega)) ⟨vp_in_nI (by omega) (by omega), (by first | exact J | exact ⟨rfl, J⟩ | exact ⟨trivial, J⟩)⟩)⟩
theorem i_vc_lowWater {k : Nat} {u : SX} {v : SY} (I : i_Rel k u v) (hk : k + 5 ≤ 2564) (v1 : Int32) : wpX_lowWater (fun r => wpY_lowWater (fun r' => r' = r ∧ i_Rel (k + 5) u v) v v1) u v1 := by
  refine zz_el (P := fun u v => wpX_lowWater (fun r => wpY_lowWater (fun r' => r' = r ∧ i_Rel (k + 5) u v) v v1) u v1) ?_ I
  intro mT mS R mQ T N op M K xtr xcp xlo xpe xre xwc xus xst xln xdn xdu xnx xco xmi xwo xbl xsc xrs xun xfr xto xbu xsp xle xsd xex xql xqu xqt xfa yf ysec ysv yqu yqt ylg yfi hR
  have J := zz_mk (zz_up hR)
  obtain ⟨⟨b1, b2, b3, b4, b5, b6, b7, b8, b9, b10⟩, hF, hG, hS, hV, hQ, hL, hN⟩ := hR
  simp only [wpX_lowWater, wpY_lowWater]
  refine xx_isResource b3 (fun j hj e => ?_) (fun z => br_t (by trivial) (yr_bad z (by first | exact J | exact ⟨rfl, J⟩ | exact ⟨trivial, J⟩)))
  subst e
  exact br_f (by decide) ⟨vp_in_nI (by omega) (by omega), br_f (nI_pos (by omega)) (br_t (nI_lt hj (by omega)) ⟨vp_in_nI (by omega) (by omega), (by first | exact J | exact ⟨rfl, J⟩ | exact ⟨trivial, J⟩)⟩)⟩
theorem i_vc_freeUnits {k : Nat} {u : SX} {v : SY} (I : i_Rel k u v) (hk : k + 5 ≤ 2564) (v1 : Int32) : wpX_freeUnits (fun r => wpY_freeUnits (fun r' => r' = r ∧ i_Rel (k + 5) u v) v v1) u v1 := by
  refine zz_el (P := fun u v => wpX_freeUnits (fun r => wpY_freeUnits (fun r' => r' = r ∧ i_Rel (k + 5) u v) v v1) u v1) ?_ I
  intro mT mS R mQ T N op M K xtr xcp xlo xpe xre xwc xus xst xln xdn xdu xnx xco xmi xwo xbl xsc xrs xun xfr xto xbu xsp xle xsd xex xql xqu xqt xfa yf ysec ysv yqu yqt ylg yfi hR
  have J := zz_mk (zz_up hR)
  obtain ⟨⟨b1, b2, b3, b4, b5, b6, b7, b8, b9, b10⟩, hF, hG, hS, hV, hQ, hL, hN⟩ := hR
  simp only [wpX_freeUnits]
  refine xx_isResource b3 (fun j hj e => ?_) (fun z => br_t (by trivial) ?_)
  · subst e
    exact br_f (by decide) (xx_freeOf (by omega) (by omega) hG.1 (yy_freeUnits hj b3 (by omega) hG.1 (tf_fq hF) hS (by first | exact J | exact ⟨rfl, J⟩ | exact ⟨trivial, J⟩)))
  · simp only [wpY_freeUnits]
    exact yr_bad z (by first | exact J | exact ⟨rfl, J⟩ | exact ⟨trivial, J⟩)
theorem i_vc_blocking {k : Nat} {u : SX} {v : SY} (I : i_Rel k u v) (hk : k + 5 ≤ 2564) (v1 : Int32) : wpX_blocking (fun r => wpY_blocking (fun r' => r' = r ∧ i_Rel (k + 5) u v) v v1) u v1 := by
  refine zz_el (P := fun u v => wpX_blocking (fun r => wpY_blocking (fun r' => r' = r ∧ i_Rel (k + 5) u v) v v1) u v1) ?_ I
  intro mT mS R mQ T N op M K xtr xcp xlo xpe xre xwc xus xst xln xdn xdu xnx xco xmi xwo xbl xsc xrs xun xfr xto xbu xsp xle xsd xex xql xqu xqt xfa yf ysec ysv yqu yqt ylg yfi hR
  have J := zz_mk (zz_up hR)
  obtain ⟨⟨b1, b2, b3, b4, b5, b6, b7, b8, b9, b10⟩, hF, hG, hS, hV, hQ, hL, hN⟩ := hR
  simp only [wpX_blocking]
  refine xx_isAdmitted (by omega) (fun j hj e => ?_) (fun z => br_t (by trivial) ?_)
  · subst e
    refine br_f (by decide) (xx_blocking (by omega) (by omega) hG.1 ?_)
    simp only [wpY_blocking]
    exact br_f (nI_pos (by omega)) (br_t (nI_lt hj (by omega)) (yy_blocking (by omega) (by omega) hG.1 (tf_fq hF) hS (zz_hL (by omega) hG.1 hG.2.1 hG.2.2.2.1 hG.2.2.2.2.1 hG.2.2.2.2.2 j (by omega)) (by first | exact J | exact ⟨rfl, J⟩ | exact ⟨trivial, J⟩)))
  · simp only [wpY_blocking]
    exact yr_bad z (by first | exact J | exact ⟨rfl, J⟩ | exact ⟨trivial, J⟩)
theorem i_vc_spare {k : Nat} {u : SX} {v : SY} (I : i_Rel k u v) (hk : k + 5 ≤ 2564) (v1 : Int32) : wpX_spare (fun r => wpY_spare (fun r' => r' = r ∧ i_Rel (k + 5) u v) v v1) u v1 := by
  refine zz_el (P := fun u v => wpX_spare (fun r => wpY_spare (fun r' => r' = r ∧ i_Rel (k + 5) u v) v v1) u v1) ?_ I
  intro mT mS R mQ T N op M K xtr xcp xlo xpe xre xwc xus xst xln xdn xdu xnx xco xmi xwo xbl xsc xrs xun xfr xto xbu xsp xle xsd xex xql xqu xqt xfa yf ysec ysv yqu yqt ylg yfi hR
  have J := zz_mk (zz_up hR)
  obtain ⟨⟨b1, b2, b3, b4, b5, b6, b7, b8, b9, b10⟩, hF, hG, hS, hV, hQ, hL, hN⟩ := hR
  simp only [wpX_spare]
  refine xx_isAdmitted (by omega) (fun j hj e => ?_) (fun z => br_t (by trivial) ?_)
  · subst e
    refine br_f (by decide) (xx_weight (by omega) (xx_load (by omega) (by omega) hG.1 ?_))
    simp only [wpY_spare]
    exact br_f (nI_pos (by omega)) (br_t (nI_lt hj (by omega)) (yy_weight (by omega) (rv_0 hV) (rv_1 hV) (yy_load (by omega) (by omega) hG.1 (tf_fq hF) hS (zz_hL (by omega) hG.1 hG.2.1 hG.2.2.2.1 hG.2.2.2.2.1 hG.2.2.2.2.2 j (by omega)) (by first | exact J | exact ⟨rfl, J⟩ | exact ⟨trivial, J⟩))))
  · simp only [wpY_spare]
    exact yr_bad z (by first | exact J | exact ⟨rfl, J⟩ | exact ⟨trivial, J⟩)
theorem i_vc_serverFact {k : Nat} {u : SX} {v : SY} (I : i_Rel k u v) (hk : k + 5 ≤ 2564) (v1 : Int32) (v2 : Int32) : wpX_serverFact (fun r => wpY_serverFact (fun r' => r' = r ∧ i_Rel (k + 5) u v) v v1 v2) u v1 v2 := by
  refine zz_el (P := fun u v => wpX_serverFact (fun r => wpY_serverFact (fun r' => r' = r ∧ i_Rel (k + 5) u v) v v1 v2) u v1 v2) ?_ I
  intro mT mS R mQ T N op M K xtr xcp xlo xpe xre xwc xus xst xln xdn xdu xnx xco xmi xwo xbl xsc xrs xun xfr xto xbu xsp xle xsd xex xql xqu xqt xfa yf ysec ysv yqu yqt ylg yfi hR
  have J := zz_mk (zz_up hR)
  obtain ⟨⟨b1, b2, b3, b4, b5, b6, b7, b8, b9, b10⟩, hF, hG, hS, hV, hQ, hL, hN⟩ := hR
  simp only [wpX_serverFact]
  refine xx_isServer (by omega) (fun s hs e => ?_) (fun z => br_t (by trivial) ?_)
  · subst e
    have hs3 : s < 3 := by omega
    have n1 : ¬ nI s < 0 := nI_pos (by omega)
    have n2 : ¬ nI M ≤ nI s := nI_ge hs (by omega)
    have vin : vp_in (nI s) 3 := vp_in_nI hs3 (by decide)
    have ecl : (nI s).toNatClampNeg = s := nI_clamp (by omega)
    rw [ecl]
    simp only [wpY_serverFact]
    refine br_f (by decide) ?_
    by_cases a : v2 < 0
    · exact br_t a (br_f n1 (br_f n2 (br_t a (by first | exact J | exact ⟨rfl, J⟩ | exact ⟨trivial, J⟩))))
    · obtain ⟨x, hx, rfl⟩ := nI_of a
      by_cases c : x ≤ 5
      · have c5 : nI x ≤ 5 := nI_le (b := 5) c (by decide)
        have hin : vp_in (6 * nI s + nI x) 18 := by rw [zz_m6, nI_add]; exact vp_in_nI (by omega) (by decide)
        have hix : (6 * nI s + nI x).toNatClampNeg = 6 * s + x := by rw [zz_m6, nI_add]; exact nI_clamp (by omega)
        rw [hix]
        obtain rfl | rfl | rfl | rfl | rfl | rfl : x = 0 ∨ x = 1 ∨ x = 2 ∨ x = 3 ∨ x = 4 ∨ x = 5 := by omega
        · exact br_f a (br_t c5 (br_t (by trivial) ⟨vin, br_f n1 (br_f n2 (br_f a (br_t c5 ⟨hin, rv_0 hV s hs3, J⟩)))⟩))
        · exact br_f a (br_t c5 (br_f (by decide) (br_t (by trivial) ⟨vin, br_f n1 (br_f n2 (br_f a (br_t c5 ⟨hin, rv_1 hV s hs3, J⟩)))⟩)))
        · exact br_f a (br_t c5 (br_f (by decide) (br_f (by decide) (br_t (by trivial) ⟨vin, br_f n1 (br_f n2 (br_f a (br_t c5 ⟨hin, rv_2 hV s hs3, J⟩)))⟩))))
        · exact br_f a (br_t c5 (br_f (by decide) (br_f (by decide) (br_f (by decide) (br_t (by trivial) ⟨vin, br_f n1 (br_f n2 (br_f a (br_t c5 ⟨hin, rv_3 hV s hs3, J⟩)))⟩)))))
        · exact br_f a (br_t c5 (br_f (by decide) (br_f (by decide) (br_f (by decide) (br_f (by decide) (br_t (by trivial) ⟨vin, br_f n1 (br_f n2 (br_f a (br_t c5 ⟨hin, rv_4 hV s hs3, J⟩)))⟩))))))
        · exact br_f a (br_t c5 (br_f (by decide) (br_f (by decide) (br_f (by decide) (br_f (by decide) (br_f (by decide) (⟨vin, br_f n1 (br_f n2 (br_f a (br_t c5 ⟨hin, rv_5 hV s hs3, J⟩)))⟩)))))))
      · have c5 : ¬ nI x ≤ 5 := nI_ge (a := 5) (by omega) hx
        exact br_f a (br_f c5 (br_f n1 (br_f n2 (br_f a (br_f c5 (by first | exact J | exact ⟨rfl, J⟩ | exact ⟨trivial, J⟩))))))
  · simp only [wpY_serverFact]
    exact yr_bad2 z (by first | exact J | exact ⟨rfl, J⟩ | exact ⟨trivial, J⟩)
theorem i_vc_queued {k : Nat} {u : SX} {v : SY} (I : i_Rel k u v) (hk : k + 5 ≤ 2564) (v1 : Int32) (v2 : Int32) : wpX_queued (fun r => wpY_queued (fun r' => r' = r ∧ i_Rel (k + 5) u v) v v1 v2) u v1 v2 := by
  refine zz_el (P := fun u v => wpX_queued (fun r => wpY_queued (fun r' => r' = r ∧ i_Rel (k + 5) u v) v v1 v2) u v1 v2) ?_ I
  intro mT mS R mQ T N op M K xtr xcp xlo xpe xre xwc xus xst xln xdn xdu xnx xco xmi xwo xbl xsc xrs xun xfr xto xbu xsp xle xsd xex xql xqu xqt xfa yf ysec ysv yqu yqt ylg yfi hR
  have J := zz_mk (zz_up hR)
  obtain ⟨⟨b1, b2, b3, b4, b5, b6, b7, b8, b9, b10⟩, hF, hG, hS, hV, hQ, hL, hN⟩ := hR
  simp only [wpX_queued, wpX_isQueued]
  refine xx_isServer (by omega) (fun s hs e => ?_) (fun z => br_t (by trivial) (br_t (by trivial) ?_))
  · subst e
    have hs3 : s < 3 := by omega
    have n1 : ¬ nI s < 0 := nI_pos (by omega)
    have n2 : ¬ nI M ≤ nI s := nI_ge hs (by omega)
    have vin : vp_in (nI s) 3 := vp_in_nI hs3 (by decide)
    have ecl : (nI s).toNatClampNeg = s := nI_clamp (by omega)
    have v4 := rv_4 hV
    have hq := hQ s hs3
    rw [ecl]
    simp (disch := omega) only [wpY_queued, wpY_noRequest, v4, nI_clamp, zz_in, zz_m4, zz_m6, zz_m14, zz_m16, nI_add, zz_p0, zz_p1, zz_p2, zz_p3, zz_p4, zz_p5, zz_p6, zz_p7, zz_p8, zz_p9, zz_p10, zz_p11, zz_p12, zz_p13, zz_a16, true_and, forall_eq]
    refine br_f (by decide) ?_
    by_cases a : v2 < 0
    · exact br_t a (br_t (by trivial) (br_f n1 (br_f n2 (br_t a (br_f (by decide) (by first | exact J | exact ⟨rfl, J⟩ | exact ⟨trivial, J⟩))))))
    · obtain ⟨p, hp, rfl⟩ := nI_of a
      by_cases c : xql s ≤ nI p
      · exact br_f a (br_t c (br_t (by trivial) (br_f n1 (br_f n2 (br_f a (br_f (Int32.not_lt.mpr c) (br_f (by decide) (by first | exact J | exact ⟨rfl, J⟩ | exact ⟨trivial, J⟩))))))))
      · have hpl : p < zc (xql s) := by
          rcases Nat.lt_or_ge p (zc (xql s)) with y | y
          · exact y
          · exact absurd (by rw [hq.1.1]; exact nI_le y hp) c
        have h12 := hq.1.2
        have hin : vp_in (nI (6 * s) + nI p) 18 := by rw [nI_add]; exact vp_in_nI (by omega) (by decide)
        have hix : (nI (6 * s) + nI p).toNatClampNeg = 6 * s + p := by rw [nI_add]; exact nI_clamp (by omega)
        first
          | exact br_f a (br_f c (br_f (by decide) ⟨hin, br_f n1 (br_f n2 (br_f a (br_t (Int32.not_le.mp c) (br_t (by trivial) ⟨hin, by rw [hix]; exact (hq.2 p hpl).1, J⟩))))⟩))
          | skip
  · simp only [wpY_queued, wpY_noRequest]
    exact yr_bad2 z (br_f (by decide) (by first | exact J | exact ⟨rfl, J⟩ | exact ⟨trivial, J⟩))
theorem i_vc_ticketAt {k : Nat} {u : SX} {v : SY} (I : i_Rel k u v) (hk : k + 5 ≤ 2564) (v1 : Int32) (v2 : Int32) : wpX_ticketAt (fun r => wpY_ticketAt (fun r' => r' = r ∧ i_Rel (k + 5) u v) v v1 v2) u v1 v2 := by
  refine zz_el (P := fun u v => wpX_ticketAt (fun r => wpY_ticketAt (fun r' => r' = r ∧ i_Rel (k + 5) u v) v v1 v2) u v1 v2) ?_ I
  intro mT mS R mQ T N op M K xtr xcp xlo xpe xre xwc xus xst xln xdn xdu xnx xco xmi xwo xbl xsc xrs xun xfr xto xbu xsp xle xsd xex xql xqu xqt xfa yf ysec ysv yqu yqt ylg yfi hR
  have J := zz_mk (zz_up hR)
  obtain ⟨⟨b1, b2, b3, b4, b5, b6, b7, b8, b9, b10⟩, hF, hG, hS, hV, hQ, hL, hN⟩ := hR
  simp only [wpX_ticketAt, wpX_isQueued]
  refine xx_isServer (by omega) (fun s hs e => ?_) (fun z => br_t (by trivial) (br_t (by trivial) ?_))
  · subst e
    have hs3 : s < 3 := by omega
    have n1 : ¬ nI s < 0 := nI_pos (by omega)
    have n2 : ¬ nI M ≤ nI s := nI_ge hs (by omega)
    have vin : vp_in (nI s) 3 := vp_in_nI hs3 (by decide)
    have ecl : (nI s).toNatClampNeg = s := nI_clamp (by omega)
    have v4 := rv_4 hV
    have hq := hQ s hs3
    rw [ecl]
    simp (disch := omega) only [wpY_ticketAt, wpY_noRequest, v4, nI_clamp, zz_in, zz_m4, zz_m6, zz_m14, zz_m16, nI_add, zz_p0, zz_p1, zz_p2, zz_p3, zz_p4, zz_p5, zz_p6, zz_p7, zz_p8, zz_p9, zz_p10, zz_p11, zz_p12, zz_p13, zz_a16, true_and, forall_eq]
    refine br_f (by decide) ?_
    by_cases a : v2 < 0
    · exact br_t a (br_t (by trivial) (br_f n1 (br_f n2 (br_t a (br_f (by decide) (by first | exact J | exact ⟨rfl, J⟩ | exact ⟨trivial, J⟩))))))
    · obtain ⟨p, hp, rfl⟩ := nI_of a
      by_cases c : xql s ≤ nI p
      · exact br_f a (br_t c (br_t (by trivial) (br_f n1 (br_f n2 (br_f a (br_f (Int32.not_lt.mpr c) (br_f (by decide) (by first | exact J | exact ⟨rfl, J⟩ | exact ⟨trivial, J⟩))))))))
      · have hpl : p < zc (xql s) := by
          rcases Nat.lt_or_ge p (zc (xql s)) with y | y
          · exact y
          · exact absurd (by rw [hq.1.1]; exact nI_le y hp) c
        have h12 := hq.1.2
        have hin : vp_in (nI (6 * s) + nI p) 18 := by rw [nI_add]; exact vp_in_nI (by omega) (by decide)
        have hix : (nI (6 * s) + nI p).toNatClampNeg = 6 * s + p := by rw [nI_add]; exact nI_clamp (by omega)
        first
          | exact br_f a (br_f c (br_f (by decide) ⟨hin, br_f n1 (br_f n2 (br_f a (br_t (Int32.not_le.mp c) (br_t (by trivial) ⟨hin, by rw [hix]; exact (hq.2 p hpl).2.1, J⟩))))⟩))
          | skip
  · simp only [wpY_ticketAt, wpY_noRequest]
    exact yr_bad2 z (br_f (by decide) (by first | exact J | exact ⟨rfl, J⟩ | exact ⟨trivial, J⟩))
theorem i_vc_servedAt {k : Nat} {u : SX} {v : SY} (I : i_Rel k u v) (hk : k + 5 ≤ 2564) (v1 : Int32) : wpX_servedAt (fun r => wpY_servedAt (fun r' => r' = r ∧ i_Rel (k + 5) u v) v v1) u v1 := by
  refine zz_el (P := fun u v => wpX_servedAt (fun r => wpY_servedAt (fun r' => r' = r ∧ i_Rel (k + 5) u v) v v1) u v1) ?_ I
  intro mT mS R mQ T N op M K xtr xcp xlo xpe xre xwc xus xst xln xdn xdu xnx xco xmi xwo xbl xsc xrs xun xfr xto xbu xsp xle xsd xex xql xqu xqt xfa yf ysec ysv yqu yqt ylg yfi hR
  have J := zz_mk (zz_up hR)
  obtain ⟨⟨b1, b2, b3, b4, b5, b6, b7, b8, b9, b10⟩, hF, hG, hS, hV, hQ, hL, hN⟩ := hR
  simp only [wpX_servedAt, wpY_servedAt]
  by_cases a : v1 < 0
  · exact br_t a (br_t a (by first | exact J | exact ⟨rfl, J⟩ | exact ⟨trivial, J⟩))
  · obtain ⟨j, hj, rfl⟩ := nI_of a
    by_cases b : j < K
    · have b' : nI j < nI K := nI_lt b (by omega)
      by_cases c : j + 32 < K
      · have c' : ¬ nI K - 32 ≤ nI j := Int32.not_le.mpr ((zz_lt32 (by omega) (by omega)).mpr c)
        exact br_f a (br_t b' (br_f c' (br_f a (br_t b' (br_f c' (by first | exact J | exact ⟨rfl, J⟩ | exact ⟨trivial, J⟩))))))
      · have c' : nI K - 32 ≤ nI j := Int32.not_lt.mp (fun z => c ((zz_lt32 (by omega) (by omega)).mp z))
        have hv := hN.1 j b (by omega)
        rw [zz_and31 _ (by omega), nI_clamp (by omega), nI_clamp (by omega), hv]
        refine br_f a (br_t b' (br_t c' ⟨vp_in_nI (by omega) (by omega), br_f a (br_t b' (br_t c' ⟨vp_in_nI (by omega) (by omega), br_c (fun z => ⟨?_, J⟩) (fun z => ⟨vp_in_nI (by omega) (by omega), ?_, J⟩)⟩))⟩))
        · rw [if_pos z]
        · rw [if_neg z]
    · have b' : ¬ nI j < nI K := nI_nlt (by omega) hj
      exact br_f a (br_f b' (br_f a (br_f b' (by first | exact J | exact ⟨rfl, J⟩ | exact ⟨trivial, J⟩))))
end
section
/-! the owed statements: facts of tasks and sections -/
variable {mT mS R mQ T N M K : Nat} {op : Int32} {xtr xcp xlo xpe xre xwc xus xst xln xdn xdu xnx xco xmi xwo xbl xsc xrs xun xfr xto xbu xsp xle xsd xex xql xqu xqt xfa : Nat → Int32} {yf ysec ysv yqu yqt ylg yfi : Nat → Int32}
theorem zz_desc (v : Int32) {n : Nat} (hn : n ≤ 6) : v < 0 ∨ (¬ v < 0 ∧ nI n < v) ∨ (∃ t, t < n ∧ v = nI t) ∨ v = nI n := by
  by_cases a : v < 0
  · exact Or.inl a
  · obtain ⟨j, hj, rfl⟩ := nI_of a
    rcases Nat.lt_trichotomy j n with z | z | z
    · exact Or.inr (Or.inr (Or.inl ⟨j, z, rfl⟩))
    · subst z
      exact Or.inr (Or.inr (Or.inr rfl))
    · exact Or.inr (Or.inl ⟨a, nI_lt z hj⟩)
/-- the test of a task's number, on both sides -/
theorem xx_descB {post : Int32 → Prop} {p : Int32} (h : p < 0 ∨ (¬ p < 0 ∧ nI N < p) ∨ (p = nI N ∧ op = 0)) (hN : N ≤ 6) (hp : post 0) : wpX_isDescribed post (nI mT, nI mS, nI R, nI mQ, nI T, nI N, op, nI M, nI K, xtr, xcp, xlo, xpe, xre, xwc, xus, xst, xln, xdn, xdu, xnx, xco, xmi, xwo, xbl, xsc, xrs, xun, xfr, xto, xbu, xsp, xle, xsd, xex, xql, xqu, xqt, xfa) p := by
  simp only [wpX_isDescribed]
  rcases h with h | ⟨h1, h2⟩ | ⟨h1, h2⟩
  · exact br_t h hp
  · exact br_f h1 (br_f (Int32.not_le.mpr h2) hp)
  · subst h1
    exact br_f (nI_pos (by omega)) (br_t (Int32.le_refl _) (br_f Int32.lt_irrefl (br_t h2 hp)))
theorem xx_descT {post : Int32 → Prop} {t : Nat} (ht : t < N) (hN : N ≤ 6) (hp : post 1) : wpX_isDescribed post (nI mT, nI mS, nI R, nI mQ, nI T, nI N, op, nI M, nI K, xtr, xcp, xlo, xpe, xre, xwc, xus, xst, xln, xdn, xdu, xnx, xco, xmi, xwo, xbl, xsc, xrs, xun, xfr, xto, xbu, xsp, xle, xsd, xex, xql, xqu, xqt, xfa) (nI t) := by
  simp only [wpX_isDescribed]
  exact br_f (nI_pos (by omega)) (br_t (nI_le (by omega) (by omega)) (br_t (nI_lt ht (by omega)) hp))
theorem xx_descD {post : Int32 → Prop} (hop : ¬ op = 0) (hN : N ≤ 6) (hp : post 1) : wpX_isDescribed post (nI mT, nI mS, nI R, nI mQ, nI T, nI N, op, nI M, nI K, xtr, xcp, xlo, xpe, xre, xwc, xus, xst, xln, xdn, xdu, xnx, xco, xmi, xwo, xbl, xsc, xrs, xun, xfr, xto, xbu, xsp, xle, xsd, xex, xql, xqu, xqt, xfa) (nI N) := by
  simp only [wpX_isDescribed]
  exact br_f (nI_pos (by omega)) (br_t (Int32.le_refl _) (br_f Int32.lt_irrefl (br_f hop hp)))
theorem yy_descB {post : Int32 → Prop} {p : Int32} (h : p < 0 ∨ (¬ p < 0 ∧ nI N < p) ∨ (p = nI N ∧ op = 0)) (hN : N ≤ 6) (hp : post 1) : wpY_noTask post (nI mT, nI mS, nI R, nI mQ, nI T, nI N, op, nI M, nI K, yf, ysec, ysv, yqu, yqt, xcp, xlo, ylg, yfi) p := by
  simp only [wpY_noTask]
  rcases h with h | ⟨h1, h2⟩ | ⟨h1, h2⟩
  · exact br_t h hp
  · exact br_f h1 (br_t h2 hp)
  · subst h1
    exact br_f (nI_pos (by omega)) (br_f Int32.lt_irrefl (br_t (by trivial) (br_t h2 hp)))
theorem yy_descT {post : Int32 → Prop} {t : Nat} (ht : t < N) (hN : N ≤ 6) (hp : post 0) : wpY_noTask post (nI mT, nI mS, nI R, nI mQ, nI T, nI N, op, nI M, nI K, yf, ysec, ysv, yqu, yqt, xcp, xlo, ylg, yfi) (nI t) := by
  simp only [wpY_noTask]
  exact br_f (nI_pos (by omega)) (br_f (nI_nlt (by omega) (by omega)) (br_f (fun z => absurd ((nI_eq (by omega) (by omega)).mp z) (by omega)) hp))
theorem yy_descD {post : Int32 → Prop} (hop : ¬ op = 0) (hN : N ≤ 6) (hp : post 0) : wpY_noTask post (nI mT, nI mS, nI R, nI mQ, nI T, nI N, op, nI M, nI K, yf, ysec, ysv, yqu, yqt, xcp, xlo, ylg, yfi) (nI N) := by
  simp only [wpY_noTask]
  exact br_f (nI_pos (by omega)) (br_f Int32.lt_irrefl (br_t (by trivial) (br_f hop hp)))
theorem yy_tfT {post : Int32 → Prop} {t x : Nat} (ht : t < N) (hN : N ≤ 6) (hx : x ≤ 13) (h : zz_TF N op xpe xre xwc xus xst xln xdn xdu xnx xco xmi xwo xbl xsc yf) (hj : ¬ xst t = 0 → post (yf (14 * t + x))) (hw : xst t = 0 → (x = 5 ∨ x = 6 ∨ x = 7) → post (-6)) (ho : xst t = 0 → ¬ (x = 5 ∨ x = 6 ∨ x = 7) → post (yf (14 * t + x))) : wpY_taskFact post (nI mT, nI mS, nI R, nI mQ, nI T, nI N, op, nI M, nI K, yf, ysec, ysv, yqu, yqt, xcp, xlo, ylg, yfi) (nI t) (nI x) := by
  have f4 := tf_4 h
  have hin : vp_in (nI (14 * t + x)) 98 := vp_in_nI (by omega) (by decide)
  have hst := tf_st h t ht
  simp only [wpY_taskFact]
  refine yy_descT ht hN (br_t (by trivial) (br_f (nI_pos (by omega)) (br_t (nI_le (b := 13) hx (by decide)) ?_)))
  simp (disch := omega) only [wY_taskFact_48, nI_clamp, zz_in, zz_m4, zz_m6, zz_m14, zz_m16, nI_add, zz_p0, zz_p1, zz_p2, zz_p3, zz_p4, zz_p5, zz_p6, zz_p7, zz_p8, zz_p9, zz_p10, zz_p11, zz_p12, zz_p13, zz_a16, true_and, forall_eq]
  refine yy_hasJob ht hN f4 (fun z => br_f (by decide) (hj ?_)) (fun z1 z2 => br_t (by trivial) ?_)
  · intro y
    rw [y] at z
    exact absurd z (by decide)
  · have y : xst t = 0 := by
      rcases hst with y | y | y
      · exact y
      · exact absurd y z1
      · exact absurd y z2
    refine pk_eq x 5 (fun e => hw y (Or.inl e)) (fun e5 => pk_eq x 6 (fun e => hw y (Or.inr (Or.inl e))) (fun e6 => pk_eq x 7 (fun e => hw y (Or.inr (Or.inr e))) (fun e7 => ho y (by omega))))
theorem yy_tfD {post : Int32 → Prop} {x : Nat} (hop : ¬ op = 0) (hN : N < 6) (hx : x ≤ 13) (h : zz_TF N op xpe xre xwc xus xst xln xdn xdu xnx xco xmi xwo xbl xsc yf) (hw : (x = 5 ∨ x = 6 ∨ x = 7) → post (-6)) (ho : ¬ (x = 5 ∨ x = 6 ∨ x = 7) → post (yf (14 * N + x))) : wpY_taskFact post (nI mT, nI mS, nI R, nI mQ, nI T, nI N, op, nI M, nI K, yf, ysec, ysv, yqu, yqt, xcp, xlo, ylg, yfi) (nI N) (nI x) := by
  have hd := (tf_dr h hop).1
  have hin : vp_in (nI (14 * N + x)) 98 := vp_in_nI (by omega) (by decide)
  simp only [wpY_taskFact]
  refine yy_descD hop (by omega) (br_t (by trivial) (br_f (nI_pos (by omega)) (br_t (nI_le (b := 13) hx (by decide)) ?_)))
  simp (disch := omega) only [wY_taskFact_48, wpY_hasJob, hd, nI_clamp, zz_in, zz_m4, zz_m6, zz_m14, zz_m16, nI_add, zz_p0, zz_p1, zz_p2, zz_p3, zz_p4, zz_p5, zz_p6, zz_p7, zz_p8, zz_p9, zz_p10, zz_p11, zz_p12, zz_p13, zz_a16, true_and, forall_eq]
  refine br_f (by decide) (br_f (by decide) (br_t (by trivial) ?_))
  exact pk_eq x 5 (fun e => hw (Or.inl e)) (fun e5 => pk_eq x 6 (fun e => hw (Or.inr (Or.inl e))) (fun e6 => pk_eq x 7 (fun e => hw (Or.inr (Or.inr e))) (fun e7 => ho (by omega))))
theorem xx_tfT_0 {post : Int32 → Prop} {t : Nat} (ht : t < N) (hN : N ≤ 6) (h : post (xpe t)) : wpX_taskFact post (nI mT, nI mS, nI R, nI mQ, nI T, nI N, op, nI M, nI K, xtr, xcp, xlo, xpe, xre, xwc, xus, xst, xln, xdn, xdu, xnx, xco, xmi, xwo, xbl, xsc, xrs, xun, xfr, xto, xbu, xsp, xle, xsd, xex, xql, xqu, xqt, xfa) (nI t) 0 := by
  have ecl : (nI t).toNatClampNeg = t := nI_clamp (by omega)
  have vin : vp_in (nI t) 6 := vp_in_nI (by omega) (by decide)
  have ne : ¬ nI t = nI N := fun z => absurd ((nI_eq (by omega) (by omega)).mp z) (by omega)
  simp only [wpX_taskFact, wX_taskFact_113, wpX_jobFact, wpX_recordFact, ecl]
  refine xx_descT ht hN (br_f (by decide) (br_f (by decide) (br_t (by decide) ?_)))
  exact br_t (by trivial) ⟨vin, h⟩
theorem xx_tfT_1 {post : Int32 → Prop} {t : Nat} (ht : t < N) (hN : N ≤ 6) (h : post (xre t)) : wpX_taskFact post (nI mT, nI mS, nI R, nI mQ, nI T, nI N, op, nI M, nI K, xtr, xcp, xlo, xpe, xre, xwc, xus, xst, xln, xdn, xdu, xnx, xco, xmi, xwo, xbl, xsc, xrs, xun, xfr, xto, xbu, xsp, xle, xsd, xex, xql, xqu, xqt, xfa) (nI t) 1 := by
  have ecl : (nI t).toNatClampNeg = t := nI_clamp (by omega)
  have vin : vp_in (nI t) 6 := vp_in_nI (by omega) (by decide)
  have ne : ¬ nI t = nI N := fun z => absurd ((nI_eq (by omega) (by omega)).mp z) (by omega)
  simp only [wpX_taskFact, wX_taskFact_113, wpX_jobFact, wpX_recordFact, ecl]
  refine xx_descT ht hN (br_f (by decide) (br_f (by decide) (br_t (by decide) ?_)))
  exact br_f (by decide) (br_t (by trivial) ⟨vin, h⟩)
theorem xx_tfT_2 {post : Int32 → Prop} {t : Nat} (ht : t < N) (hN : N ≤ 6) (h : post (xwc t)) : wpX_taskFact post (nI mT, nI mS, nI R, nI mQ, nI T, nI N, op, nI M, nI K, xtr, xcp, xlo, xpe, xre, xwc, xus, xst, xln, xdn, xdu, xnx, xco, xmi, xwo, xbl, xsc, xrs, xun, xfr, xto, xbu, xsp, xle, xsd, xex, xql, xqu, xqt, xfa) (nI t) 2 := by
  have ecl : (nI t).toNatClampNeg = t := nI_clamp (by omega)
  have vin : vp_in (nI t) 6 := vp_in_nI (by omega) (by decide)
  have ne : ¬ nI t = nI N := fun z => absurd ((nI_eq (by omega) (by omega)).mp z) (by omega)
  simp only [wpX_taskFact, wX_taskFact_113, wpX_jobFact, wpX_recordFact, ecl]
  refine xx_descT ht hN (br_f (by decide) (br_f (by decide) (br_t (by decide) ?_)))
  exact br_f (by decide) (br_f (by decide) (br_t (by trivial) ⟨vin, h⟩))
theorem xx_tfT_3 {post : Int32 → Prop} {t : Nat} (ht : t < N) (hN : N ≤ 6) (h : post (xus t)) : wpX_taskFact post (nI mT, nI mS, nI R, nI mQ, nI T, nI N, op, nI M, nI K, xtr, xcp, xlo, xpe, xre, xwc, xus, xst, xln, xdn, xdu, xnx, xco, xmi, xwo, xbl, xsc, xrs, xun, xfr, xto, xbu, xsp, xle, xsd, xex, xql, xqu, xqt, xfa) (nI t) 3 := by
  have ecl : (nI t).toNatClampNeg = t := nI_clamp (by omega)
  have vin : vp_in (nI t) 6 := vp_in_nI (by omega) (by decide)
  have ne : ¬ nI t = nI N := fun z => absurd ((nI_eq (by omega) (by omega)).mp z) (by omega)
  simp only [wpX_taskFact, wX_taskFact_113, wpX_jobFact, wpX_recordFact, ecl]
  refine xx_descT ht hN (br_f (by decide) (br_f (by decide) (br_t (by decide) ?_)))
  exact br_f (by decide) (br_f (by decide) (br_f (by decide) (br_t (by trivial) ⟨vin, h⟩)))
theorem xx_tfT_4 {post : Int32 → Prop} {t : Nat} (ht : t < N) (hN : N ≤ 6) (h : post (xst t)) : wpX_taskFact post (nI mT, nI mS, nI R, nI mQ, nI T, nI N, op, nI M, nI K, xtr, xcp, xlo, xpe, xre, xwc, xus, xst, xln, xdn, xdu, xnx, xco, xmi, xwo, xbl, xsc, xrs, xun, xfr, xto, xbu, xsp, xle, xsd, xex, xql, xqu, xqt, xfa) (nI t) 4 := by
  have ecl : (nI t).toNatClampNeg = t := nI_clamp (by omega)
  have vin : vp_in (nI t) 6 := vp_in_nI (by omega) (by decide)
  have ne : ¬ nI t = nI N := fun z => absurd ((nI_eq (by omega) (by omega)).mp z) (by omega)
  simp only [wpX_taskFact, wX_taskFact_113, wpX_jobFact, wpX_recordFact, ecl]
  refine xx_descT ht hN (br_f (by decide) (br_f (by decide) (br_t (by decide) ?_)))
  exact br_f (by decide) (br_f (by decide) (br_f (by decide) (br_f (by decide) (br_f (by decide) (br_f ne (br_f (by decide) (br_f (by decide) (br_f (by decide) (br_t (by trivial) ⟨vin, h⟩)))))))))
theorem xx_tfT_5 {post : Int32 → Prop} {t : Nat} (ht : t < N) (hN : N ≤ 6) (h0 : xst t = 0 → post (-6)) (h : ¬ xst t = 0 → post (xln t)) : wpX_taskFact post (nI mT, nI mS, nI R, nI mQ, nI T, nI N, op, nI M, nI K, xtr, xcp, xlo, xpe, xre, xwc, xus, xst, xln, xdn, xdu, xnx, xco, xmi, xwo, xbl, xsc, xrs, xun, xfr, xto, xbu, xsp, xle, xsd, xex, xql, xqu, xqt, xfa) (nI t) 5 := by
  have ecl : (nI t).toNatClampNeg = t := nI_clamp (by omega)
  have vin : vp_in (nI t) 6 := vp_in_nI (by omega) (by decide)
  have ne : ¬ nI t = nI N := fun z => absurd ((nI_eq (by omega) (by omega)).mp z) (by omega)
  simp only [wpX_taskFact, wX_taskFact_113, wpX_jobFact, wpX_recordFact, ecl]
  refine xx_descT ht hN (br_f (by decide) (br_f (by decide) (br_t (by decide) ?_)))
  exact br_f (by decide) (br_f (by decide) (br_f (by decide) (br_f (by decide) (br_f (by decide) (br_f ne (br_t (by trivial) ⟨vin, br_c (fun z => h0 z) (fun z => br_t (by trivial) ⟨vin, h z⟩)⟩))))))
theorem xx_tfT_6 {post : Int32 → Prop} {t : Nat} (ht : t < N) (hN : N ≤ 6) (h0 : xst t = 0 → post (-6)) (h : ¬ xst t = 0 → post (xdn t)) : wpX_taskFact post (nI mT, nI mS, nI R, nI mQ, nI T, nI N, op, nI M, nI K, xtr, xcp, xlo, xpe, xre, xwc, xus, xst, xln, xdn, xdu, xnx, xco, xmi, xwo, xbl, xsc, xrs, xun, xfr, xto, xbu, xsp, xle, xsd, xex, xql, xqu, xqt, xfa) (nI t) 6 := by
  have ecl : (nI t).toNatClampNeg = t := nI_clamp (by omega)
  have vin : vp_in (nI t) 6 := vp_in_nI (by omega) (by decide)
  have ne : ¬ nI t = nI N := fun z => absurd ((nI_eq (by omega) (by omega)).mp z) (by omega)
  simp only [wpX_taskFact, wX_taskFact_113, wpX_jobFact, wpX_recordFact, ecl]
  refine xx_descT ht hN (br_f (by decide) (br_f (by decide) (br_t (by decide) ?_)))
  exact br_f (by decide) (br_f (by decide) (br_f (by decide) (br_f (by decide) (br_f (by decide) (br_f ne (br_f (by decide) (br_t (by trivial) ⟨vin, br_c (fun z => h0 z) (fun z => br_f (by decide) (br_t (by trivial) ⟨vin, h z⟩))⟩)))))))
theorem xx_tfT_7 {post : Int32 → Prop} {t : Nat} (ht : t < N) (hN : N ≤ 6) (h0 : xst t = 0 → post (-6)) (h : ¬ xst t = 0 → post (xdu t)) : wpX_taskFact post (nI mT, nI mS, nI R, nI mQ, nI T, nI N, op, nI M, nI K, xtr, xcp, xlo, xpe, xre, xwc, xus, xst, xln, xdn, xdu, xnx, xco, xmi, xwo, xbl, xsc, xrs, xun, xfr, xto, xbu, xsp, xle, xsd, xex, xql, xqu, xqt, xfa) (nI t) 7 := by
  have ecl : (nI t).toNatClampNeg = t := nI_clamp (by omega)
  have vin : vp_in (nI t) 6 := vp_in_nI (by omega) (by decide)
  have ne : ¬ nI t = nI N := fun z => absurd ((nI_eq (by omega) (by omega)).mp z) (by omega)
  simp only [wpX_taskFact, wX_taskFact_113, wpX_jobFact, wpX_recordFact, ecl]
  refine xx_descT ht hN (br_f (by decide) (br_f (by decide) (br_t (by decide) ?_)))
  exact br_f (by decide) (br_f (by decide) (br_f (by decide) (br_f (by decide) (br_f (by decide) (br_f ne (br_f (by decide) (br_f (by decide) (br_t (by trivial) ⟨vin, br_c (fun z => h0 z) (fun z => br_f (by decide) (br_f (by decide) ⟨vin, h z⟩))⟩))))))))
theorem xx_tfT_8 {post : Int32 → Prop} {t : Nat} (ht : t < N) (hN : N ≤ 6) (h : post (xnx t)) : wpX_taskFact post (nI mT, nI mS, nI R, nI mQ, nI T, nI N, op, nI M, nI K, xtr, xcp, xlo, xpe, xre, xwc, xus, xst, xln, xdn, xdu, xnx, xco, xmi, xwo, xbl, xsc, xrs, xun, xfr, xto, xbu, xsp, xle, xsd, xex, xql, xqu, xqt, xfa) (nI t) 8 := by
  have ecl : (nI t).toNatClampNeg = t := nI_clamp (by omega)
  have vin : vp_in (nI t) 6 := vp_in_nI (by omega) (by decide)
  have ne : ¬ nI t = nI N := fun z => absurd ((nI_eq (by omega) (by omega)).mp z) (by omega)
  simp only [wpX_taskFact, wX_taskFact_113, wpX_jobFact, wpX_recordFact, ecl]
  refine xx_descT ht hN (br_f (by decide) (br_f (by decide) (br_t (by decide) ?_)))
  exact br_f (by decide) (br_f (by decide) (br_f (by decide) (br_f (by decide) (br_f (by decide) (br_f ne (br_f (by decide) (br_f (by decide) (br_f (by decide) (br_f (by decide) (br_t (by trivial) ⟨vin, h⟩))))))))))
theorem xx_tfT_9 {post : Int32 → Prop} {t : Nat} (ht : t < N) (hN : N ≤ 6) (h : post (xco t)) : wpX_taskFact post (nI mT, nI mS, nI R, nI mQ, nI T, nI N, op, nI M, nI K, xtr, xcp, xlo, xpe, xre, xwc, xus, xst, xln, xdn, xdu, xnx, xco, xmi, xwo, xbl, xsc, xrs, xun, xfr, xto, xbu, xsp, xle, xsd, xex, xql, xqu, xqt, xfa) (nI t) 9 := by
  have ecl : (nI t).toNatClampNeg = t := nI_clamp (by omega)
  have vin : vp_in (nI t) 6 := vp_in_nI (by omega) (by decide)
  have ne : ¬ nI t = nI N := fun z => absurd ((nI_eq (by omega) (by omega)).mp z) (by omega)
  simp only [wpX_taskFact, wX_taskFact_113, wpX_jobFact, wpX_recordFact, ecl]
  refine xx_descT ht hN (br_f (by decide) (br_f (by decide) (br_t (by decide) ?_)))
  exact br_f (by decide) (br_f (by decide) (br_f (by decide) (br_f (by decide) (br_f (by decide) (br_f ne (br_f (by decide) (br_f (by decide) (br_f (by decide) (br_f (by decide) (br_f (by decide) (br_t (by trivial) ⟨vin, h⟩)))))))))))
theorem xx_tfT_10 {post : Int32 → Prop} {t : Nat} (ht : t < N) (hN : N ≤ 6) (h : post (xmi t)) : wpX_taskFact post (nI mT, nI mS, nI R, nI mQ, nI T, nI N, op, nI M, nI K, xtr, xcp, xlo, xpe, xre, xwc, xus, xst, xln, xdn, xdu, xnx, xco, xmi, xwo, xbl, xsc, xrs, xun, xfr, xto, xbu, xsp, xle, xsd, xex, xql, xqu, xqt, xfa) (nI t) 10 := by
  have ecl : (nI t).toNatClampNeg = t := nI_clamp (by omega)
  have vin : vp_in (nI t) 6 := vp_in_nI (by omega) (by decide)
  have ne : ¬ nI t = nI N := fun z => absurd ((nI_eq (by omega) (by omega)).mp z) (by omega)
  simp only [wpX_taskFact, wX_taskFact_113, wpX_jobFact, wpX_recordFact, ecl]
  refine xx_descT ht hN (br_f (by decide) (br_f (by decide) (br_t (by decide) ?_)))
  exact br_f (by decide) (br_f (by decide) (br_f (by decide) (br_f (by decide) (br_f (by decide) (br_f ne (br_f (by decide) (br_f (by decide) (br_f (by decide) (br_f (by decide) (br_f (by decide) (br_f (by decide) (br_t (by trivial) ⟨vin, h⟩))))))))))))
theorem xx_tfT_11 {post : Int32 → Prop} {t : Nat} (ht : t < N) (hN : N ≤ 6) (h : post (xwo t)) : wpX_taskFact post (nI mT, nI mS, nI R, nI mQ, nI T, nI N, op, nI M, nI K, xtr, xcp, xlo, xpe, xre, xwc, xus, xst, xln, xdn, xdu, xnx, xco, xmi, xwo, xbl, xsc, xrs, xun, xfr, xto, xbu, xsp, xle, xsd, xex, xql, xqu, xqt, xfa) (nI t) 11 := by
  have ecl : (nI t).toNatClampNeg = t := nI_clamp (by omega)
  have vin : vp_in (nI t) 6 := vp_in_nI (by omega) (by decide)
  have ne : ¬ nI t = nI N := fun z => absurd ((nI_eq (by omega) (by omega)).mp z) (by omega)
  simp only [wpX_taskFact, wX_taskFact_113, wpX_jobFact, wpX_recordFact, ecl]
  refine xx_descT ht hN (br_f (by decide) (br_f (by decide) (br_t (by decide) ?_)))
  exact br_f (by decide) (br_f (by decide) (br_f (by decide) (br_f (by decide) (br_f (by decide) (br_f ne (br_f (by decide) (br_f (by decide) (br_f (by decide) (br_f (by decide) (br_f (by decide) (br_f (by decide) (br_f (by decide) (br_t (by trivial) ⟨vin, h⟩)))))))))))))
theorem xx_tfT_12 {post : Int32 → Prop} {t : Nat} (ht : t < N) (hN : N ≤ 6) (h : post (xbl t)) : wpX_taskFact post (nI mT, nI mS, nI R, nI mQ, nI T, nI N, op, nI M, nI K, xtr, xcp, xlo, xpe, xre, xwc, xus, xst, xln, xdn, xdu, xnx, xco, xmi, xwo, xbl, xsc, xrs, xun, xfr, xto, xbu, xsp, xle, xsd, xex, xql, xqu, xqt, xfa) (nI t) 12 := by
  have ecl : (nI t).toNatClampNeg = t := nI_clamp (by omega)
  have vin : vp_in (nI t) 6 := vp_in_nI (by omega) (by decide)
  have ne : ¬ nI t = nI N := fun z => absurd ((nI_eq (by omega) (by omega)).mp z) (by omega)
  simp only [wpX_taskFact, wX_taskFact_113, wpX_jobFact, wpX_recordFact, ecl]
  refine xx_descT ht hN (br_f (by decide) (br_f (by decide) (br_t (by decide) ?_)))
  exact br_f (by decide) (br_f (by decide) (br_f (by decide) (br_f (by decide) (br_f (by decide) (br_f ne (br_f (by decide) (br_f (by decide) (br_f (by decide) (br_f (by decide) (br_f (by decide) (br_f (by decide) (br_f (by decide) (br_f (by decide) (⟨vin, h⟩))))))))))))))
theorem xx_tfT_13 {post : Int32 → Prop} {t : Nat} (ht : t < N) (hN : N ≤ 6) (h : post (xsc t)) : wpX_taskFact post (nI mT, nI mS, nI R, nI mQ, nI T, nI N, op, nI M, nI K, xtr, xcp, xlo, xpe, xre, xwc, xus, xst, xln, xdn, xdu, xnx, xco, xmi, xwo, xbl, xsc, xrs, xun, xfr, xto, xbu, xsp, xle, xsd, xex, xql, xqu, xqt, xfa) (nI t) 13 := by
  have ecl : (nI t).toNatClampNeg = t := nI_clamp (by omega)
  have vin : vp_in (nI t) 6 := vp_in_nI (by omega) (by decide)
  have ne : ¬ nI t = nI N := fun z => absurd ((nI_eq (by omega) (by omega)).mp z) (by omega)
  simp only [wpX_taskFact, wX_taskFact_113, wpX_jobFact, wpX_recordFact, ecl]
  refine xx_descT ht hN (br_f (by decide) (br_f (by decide) (br_t (by decide) ?_)))
  exact br_f (by decide) (br_f (by decide) (br_f (by decide) (br_f (by decide) (br_t (by trivial) ⟨vin, h⟩))))
theorem xx_tfD_0 {post : Int32 → Prop} (hop : ¬ op = 0) (hN : N < 6) (h : post (xpe N)) : wpX_taskFact post (nI mT, nI mS, nI R, nI mQ, nI T, nI N, op, nI M, nI K, xtr, xcp, xlo, xpe, xre, xwc, xus, xst, xln, xdn, xdu, xnx, xco, xmi, xwo, xbl, xsc, xrs, xun, xfr, xto, xbu, xsp, xle, xsd, xex, xql, xqu, xqt, xfa) (nI N) 0 := by
  have ecl : (nI N).toNatClampNeg = N := nI_clamp (by omega)
  have vin : vp_in (nI N) 6 := vp_in_nI (by omega) (by decide)
  simp only [wpX_taskFact, wX_taskFact_113, wpX_draftFact, ecl]
  refine xx_descD hop (by omega) (br_f (by decide) (br_f (by decide) (br_t (by decide) ?_)))
  exact br_t (by trivial) ⟨vin, h⟩
theorem xx_tfD_1 {post : Int32 → Prop} (hop : ¬ op = 0) (hN : N < 6) (h : post (xre N)) : wpX_taskFact post (nI mT, nI mS, nI R, nI mQ, nI T, nI N, op, nI M, nI K, xtr, xcp, xlo, xpe, xre, xwc, xus, xst, xln, xdn, xdu, xnx, xco, xmi, xwo, xbl, xsc, xrs, xun, xfr, xto, xbu, xsp, xle, xsd, xex, xql, xqu, xqt, xfa) (nI N) 1 := by
  have ecl : (nI N).toNatClampNeg = N := nI_clamp (by omega)
  have vin : vp_in (nI N) 6 := vp_in_nI (by omega) (by decide)
  simp only [wpX_taskFact, wX_taskFact_113, wpX_draftFact, ecl]
  refine xx_descD hop (by omega) (br_f (by decide) (br_f (by decide) (br_t (by decide) ?_)))
  exact br_f (by decide) (br_t (by trivial) ⟨vin, h⟩)
theorem xx_tfD_2 {post : Int32 → Prop} (hop : ¬ op = 0) (hN : N < 6) (h : post (xwc N)) : wpX_taskFact post (nI mT, nI mS, nI R, nI mQ, nI T, nI N, op, nI M, nI K, xtr, xcp, xlo, xpe, xre, xwc, xus, xst, xln, xdn, xdu, xnx, xco, xmi, xwo, xbl, xsc, xrs, xun, xfr, xto, xbu, xsp, xle, xsd, xex, xql, xqu, xqt, xfa) (nI N) 2 := by
  have ecl : (nI N).toNatClampNeg = N := nI_clamp (by omega)
  have vin : vp_in (nI N) 6 := vp_in_nI (by omega) (by decide)
  simp only [wpX_taskFact, wX_taskFact_113, wpX_draftFact, ecl]
  refine xx_descD hop (by omega) (br_f (by decide) (br_f (by decide) (br_t (by decide) ?_)))
  exact br_f (by decide) (br_f (by decide) (br_t (by trivial) ⟨vin, h⟩))
theorem xx_tfD_3 {post : Int32 → Prop} (hop : ¬ op = 0) (hN : N < 6) (h : post (xus N)) : wpX_taskFact post (nI mT, nI mS, nI R, nI mQ, nI T, nI N, op, nI M, nI K, xtr, xcp, xlo, xpe, xre, xwc, xus, xst, xln, xdn, xdu, xnx, xco, xmi, xwo, xbl, xsc, xrs, xun, xfr, xto, xbu, xsp, xle, xsd, xex, xql, xqu, xqt, xfa) (nI N) 3 := by
  have ecl : (nI N).toNatClampNeg = N := nI_clamp (by omega)
  have vin : vp_in (nI N) 6 := vp_in_nI (by omega) (by decide)
  simp only [wpX_taskFact, wX_taskFact_113, wpX_draftFact, ecl]
  refine xx_descD hop (by omega) (br_f (by decide) (br_f (by decide) (br_t (by decide) ?_)))
  exact br_f (by decide) (br_f (by decide) (br_f (by decide) (br_t (by trivial) ⟨vin, h⟩)))
theorem xx_tfD_4 {post : Int32 → Prop} (hop : ¬ op = 0) (hN : N < 6) (h : post (3)) : wpX_taskFact post (nI mT, nI mS, nI R, nI mQ, nI T, nI N, op, nI M, nI K, xtr, xcp, xlo, xpe, xre, xwc, xus, xst, xln, xdn, xdu, xnx, xco, xmi, xwo, xbl, xsc, xrs, xun, xfr, xto, xbu, xsp, xle, xsd, xex, xql, xqu, xqt, xfa) (nI N) 4 := by
  have ecl : (nI N).toNatClampNeg = N := nI_clamp (by omega)
  have vin : vp_in (nI N) 6 := vp_in_nI (by omega) (by decide)
  simp only [wpX_taskFact, wX_taskFact_113, wpX_draftFact, ecl]
  refine xx_descD hop (by omega) (br_f (by decide) (br_f (by decide) (br_t (by decide) ?_)))
  exact br_f (by decide) (br_f (by decide) (br_f (by decide) (br_f (by decide) (br_f (by decide) (br_t (by trivial) (br_t (by trivial) h))))))
theorem xx_tfD_5 {post : Int32 → Prop} (hop : ¬ op = 0) (hN : N < 6) (h : post (-6)) : wpX_taskFact post (nI mT, nI mS, nI R, nI mQ, nI T, nI N, op, nI M, nI K, xtr, xcp, xlo, xpe, xre, xwc, xus, xst, xln, xdn, xdu, xnx, xco, xmi, xwo, xbl, xsc, xrs, xun, xfr, xto, xbu, xsp, xle, xsd, xex, xql, xqu, xqt, xfa) (nI N) 5 := by
  have ecl : (nI N).toNatClampNeg = N := nI_clamp (by omega)
  have vin : vp_in (nI N) 6 := vp_in_nI (by omega) (by decide)
  simp only [wpX_taskFact, wX_taskFact_113, wpX_draftFact, ecl]
  refine xx_descD hop (by omega) (br_f (by decide) (br_f (by decide) (br_t (by decide) ?_)))
  exact br_f (by decide) (br_f (by decide) (br_f (by decide) (br_f (by decide) (br_f (by decide) (br_t (by trivial) (br_f (by decide) (br_t (by trivial) h)))))))
theorem xx_tfD_6 {post : Int32 → Prop} (hop : ¬ op = 0) (hN : N < 6) (h : post (-6)) : wpX_taskFact post (nI mT, nI mS, nI R, nI mQ, nI T, nI N, op, nI M, nI K, xtr, xcp, xlo, xpe, xre, xwc, xus, xst, xln, xdn, xdu, xnx, xco, xmi, xwo, xbl, xsc, xrs, xun, xfr, xto, xbu, xsp, xle, xsd, xex, xql, xqu, xqt, xfa) (nI N) 6 := by
  have ecl : (nI N).toNatClampNeg = N := nI_clamp (by omega)
  have vin : vp_in (nI N) 6 := vp_in_nI (by omega) (by decide)
  simp only [wpX_taskFact, wX_taskFact_113, wpX_draftFact, ecl]
  refine xx_descD hop (by omega) (br_f (by decide) (br_f (by decide) (br_t (by decide) ?_)))
  exact br_f (by decide) (br_f (by decide) (br_f (by decide) (br_f (by decide) (br_f (by decide) (br_t (by trivial) (br_f (by decide) (br_f (by decide) (br_t (by trivial) h))))))))
theorem xx_tfD_7 {post : Int32 → Prop} (hop : ¬ op = 0) (hN : N < 6) (h : post (-6)) : wpX_taskFact post (nI mT, nI mS, nI R, nI mQ, nI T, nI N, op, nI M, nI K, xtr, xcp, xlo, xpe, xre, xwc, xus, xst, xln, xdn, xdu, xnx, xco, xmi, xwo, xbl, xsc, xrs, xun, xfr, xto, xbu, xsp, xle, xsd, xex, xql, xqu, xqt, xfa) (nI N) 7 := by
  have ecl : (nI N).toNatClampNeg = N := nI_clamp (by omega)
  have vin : vp_in (nI N) 6 := vp_in_nI (by omega) (by decide)
  simp only [wpX_taskFact, wX_taskFact_113, wpX_draftFact, ecl]
  refine xx_descD hop (by omega) (br_f (by decide) (br_f (by decide) (br_t (by decide) ?_)))
  exact br_f (by decide) (br_f (by decide) (br_f (by decide) (br_f (by decide) (br_f (by decide) (br_t (by trivial) (br_f (by decide) (br_f (by decide) (br_f (by decide) (br_t (by trivial) h)))))))))
theorem xx_tfD_8 {post : Int32 → Prop} (hop : ¬ op = 0) (hN : N < 6) (h : post (-6)) : wpX_taskFact post (nI mT, nI mS, nI R, nI mQ, nI T, nI N, op, nI M, nI K, xtr, xcp, xlo, xpe, xre, xwc, xus, xst, xln, xdn, xdu, xnx, xco, xmi, xwo, xbl, xsc, xrs, xun, xfr, xto, xbu, xsp, xle, xsd, xex, xql, xqu, xqt, xfa) (nI N) 8 := by
  have ecl : (nI N).toNatClampNeg = N := nI_clamp (by omega)
  have vin : vp_in (nI N) 6 := vp_in_nI (by omega) (by decide)
  simp only [wpX_taskFact, wX_taskFact_113, wpX_draftFact, ecl]
  refine xx_descD hop (by omega) (br_f (by decide) (br_f (by decide) (br_t (by decide) ?_)))
  exact br_f (by decide) (br_f (by decide) (br_f (by decide) (br_f (by decide) (br_f (by decide) (br_t (by trivial) (br_f (by decide) (br_f (by decide) (br_f (by decide) (br_f (by decide) (br_t (by trivial) h))))))))))
theorem xx_tfD_9 {post : Int32 → Prop} (hop : ¬ op = 0) (hN : N < 6) (h : post (0)) : wpX_taskFact post (nI mT, nI mS, nI R, nI mQ, nI T, nI N, op, nI M, nI K, xtr, xcp, xlo, xpe, xre, xwc, xus, xst, xln, xdn, xdu, xnx, xco, xmi, xwo, xbl, xsc, xrs, xun, xfr, xto, xbu, xsp, xle, xsd, xex, xql, xqu, xqt, xfa) (nI N) 9 := by
  have ecl : (nI N).toNatClampNeg = N := nI_clamp (by omega)
  have vin : vp_in (nI N) 6 := vp_in_nI (by omega) (by decide)
  simp only [wpX_taskFact, wX_taskFact_113, wpX_draftFact, ecl]
  refine xx_descD hop (by omega) (br_f (by decide) (br_f (by decide) (br_t (by decide) ?_)))
  exact br_f (by decide) (br_f (by decide) (br_f (by decide) (br_f (by decide) (br_f (by decide) (br_t (by trivial) (br_f (by decide) (br_f (by decide) (br_f (by decide) (br_f (by decide) (br_f (by decide) (h)))))))))))
theorem xx_tfD_10 {post : Int32 → Prop} (hop : ¬ op = 0) (hN : N < 6) (h : post (0)) : wpX_taskFact post (nI mT, nI mS, nI R, nI mQ, nI T, nI N, op, nI M, nI K, xtr, xcp, xlo, xpe, xre, xwc, xus, xst, xln, xdn, xdu, xnx, xco, xmi, xwo, xbl, xsc, xrs, xun, xfr, xto, xbu, xsp, xle, xsd, xex, xql, xqu, xqt, xfa) (nI N) 10 := by
  have ecl : (nI N).toNatClampNeg = N := nI_clamp (by omega)
  have vin : vp_in (nI N) 6 := vp_in_nI (by omega) (by decide)
  simp only [wpX_taskFact, wX_taskFact_113, wpX_draftFact, ecl]
  refine xx_descD hop (by omega) (br_f (by decide) (br_f (by decide) (br_t (by decide) ?_)))
  exact br_f (by decide) (br_f (by decide) (br_f (by decide) (br_f (by decide) (br_f (by decide) (br_t (by trivial) (br_f (by decide) (br_f (by decide) (br_f (by decide) (br_f (by decide) (br_f (by decide) (h)))))))))))
theorem xx_tfD_11 {post : Int32 → Prop} (hop : ¬ op = 0) (hN : N < 6) (h : post (0)) : wpX_taskFact post (nI mT, nI mS, nI R, nI mQ, nI T, nI N, op, nI M, nI K, xtr, xcp, xlo, xpe, xre, xwc, xus, xst, xln, xdn, xdu, xnx, xco, xmi, xwo, xbl, xsc, xrs, xun, xfr, xto, xbu, xsp, xle, xsd, xex, xql, xqu, xqt, xfa) (nI N) 11 := by
  have ecl : (nI N).toNatClampNeg = N := nI_clamp (by omega)
  have vin : vp_in (nI N) 6 := vp_in_nI (by omega) (by decide)
  simp only [wpX_taskFact, wX_taskFact_113, wpX_draftFact, ecl]
  refine xx_descD hop (by omega) (br_f (by decide) (br_f (by decide) (br_t (by decide) ?_)))
  exact br_f (by decide) (br_f (by decide) (br_f (by decide) (br_f (by decide) (br_f (by decide) (br_t (by trivial) (br_f (by decide) (br_f (by decide) (br_f (by decide) (br_f (by decide) (br_f (by decide) (h)))))))))))
theorem xx_tfD_12 {post : Int32 → Prop} (hop : ¬ op = 0) (hN : N < 6) (h : post (0)) : wpX_taskFact post (nI mT, nI mS, nI R, nI mQ, nI T, nI N, op, nI M, nI K, xtr, xcp, xlo, xpe, xre, xwc, xus, xst, xln, xdn, xdu, xnx, xco, xmi, xwo, xbl, xsc, xrs, xun, xfr, xto, xbu, xsp, xle, xsd, xex, xql, xqu, xqt, xfa) (nI N) 12 := by
  have ecl : (nI N).toNatClampNeg = N := nI_clamp (by omega)
  have vin : vp_in (nI N) 6 := vp_in_nI (by omega) (by decide)
  simp only [wpX_taskFact, wX_taskFact_113, wpX_draftFact, ecl]
  refine xx_descD hop (by omega) (br_f (by decide) (br_f (by decide) (br_t (by decide) ?_)))
  exact br_f (by decide) (br_f (by decide) (br_f (by decide) (br_f (by decide) (br_f (by decide) (br_t (by trivial) (br_f (by decide) (br_f (by decide) (br_f (by decide) (br_f (by decide) (br_f (by decide) (h)))))))))))
theorem xx_tfD_13 {post : Int32 → Prop} (hop : ¬ op = 0) (hN : N < 6) (h : post (xsc N)) : wpX_taskFact post (nI mT, nI mS, nI R, nI mQ, nI T, nI N, op, nI M, nI K, xtr, xcp, xlo, xpe, xre, xwc, xus, xst, xln, xdn, xdu, xnx, xco, xmi, xwo, xbl, xsc, xrs, xun, xfr, xto, xbu, xsp, xle, xsd, xex, xql, xqu, xqt, xfa) (nI N) 13 := by
  have ecl : (nI N).toNatClampNeg = N := nI_clamp (by omega)
  have vin : vp_in (nI N) 6 := vp_in_nI (by omega) (by decide)
  simp only [wpX_taskFact, wX_taskFact_113, wpX_draftFact, ecl]
  refine xx_descD hop (by omega) (br_f (by decide) (br_f (by decide) (br_t (by decide) ?_)))
  exact br_f (by decide) (br_f (by decide) (br_f (by decide) (br_f (by decide) (br_t (by trivial) ⟨vin, h⟩))))
theorem i_vc_taskFact {k : Nat} {u : SX} {v : SY} (I : i_Rel k u v) (hk : k + 5 ≤ 2564) (v1 : Int32) (v2 : Int32) : wpX_taskFact (fun r => wpY_taskFact (fun r' => r' = r ∧ i_Rel (k + 5) u v) v v1 v2) u v1 v2 := by
  refine zz_el (P := fun u v => wpX_taskFact (fun r => wpY_taskFact (fun r' => r' = r ∧ i_Rel (k + 5) u v) v v1 v2) u v1 v2) ?_ I
  intro mT mS R mQ T N op M K xtr xcp xlo xpe xre xwc xus xst xln xdn xdu xnx xco xmi xwo xbl xsc xrs xun xfr xto xbu xsp xle xsd xex xql xqu xqt xfa yf ysec ysv yqu yqt ylg yfi hR
  have J := zz_mk (zz_up hR)
  obtain ⟨⟨b1, b2, b3, b4, b5, b6, b7, b8, b9, b10⟩, hF, hG, hS, hV, hQ, hL, hN⟩ := hR
  have bad : (v1 < 0 ∨ (¬ v1 < 0 ∧ nI N < v1) ∨ (v1 = nI N ∧ op = 0)) → wpX_taskFact (fun r => wpY_taskFact (fun r' => r' = r ∧ i_Rel (k + 5) (nI mT, nI mS, nI R, nI mQ, nI T, nI N, op, nI M, nI K, xtr, xcp, xlo, xpe, xre, xwc, xus, xst, xln, xdn, xdu, xnx, xco, xmi, xwo, xbl, xsc, xrs, xun, xfr, xto, xbu, xsp, xle, xsd, xex, xql, xqu, xqt, xfa) (nI mT, nI mS, nI R, nI mQ, nI T, nI N, op, nI M, nI K, yf, ysec, ysv, yqu, yqt, xcp, xlo, ylg, yfi)) (nI mT, nI mS, nI R, nI mQ, nI T, nI N, op, nI M, nI K, yf, ysec, ysv, yqu, yqt, xcp, xlo, ylg, yfi) v1 v2) (nI mT, nI mS, nI R, nI mQ, nI T, nI N, op, nI M, nI K, xtr, xcp, xlo, xpe, xre, xwc, xus, xst, xln, xdn, xdu, xnx, xco, xmi, xwo, xbl, xsc, xrs, xun, xfr, xto, xbu, xsp, xle, xsd, xex, xql, xqu, xqt, xfa) v1 v2 := by
    intro z
    simp only [wpX_taskFact, wpY_taskFact]
    exact xx_descB z (by omega) (br_t (by trivial) (yy_descB z (by omega) (br_f (by decide) (by first | exact J | exact ⟨rfl, J⟩ | exact ⟨trivial, J⟩))))
  rcases zz_desc v1 (n := N) (by omega) with z | z | ⟨t, ht, rfl⟩ | rfl
  · exact bad (Or.inl z)
  · exact bad (Or.inr (Or.inl z))
  · by_cases a : v2 < 0
    · simp only [wpX_taskFact, wpY_taskFact]
      exact xx_descT ht (by omega) (br_f (by decide) (br_t a (yy_descT ht (by omega) (br_t (by trivial) (br_t a (by first | exact J | exact ⟨rfl, J⟩ | exact ⟨trivial, J⟩))))))
    · obtain ⟨x, hx, rfl⟩ := nI_of a
      by_cases c : x ≤ 13
      · obtain rfl | rfl | rfl | rfl | rfl | rfl | rfl | rfl | rfl | rfl | rfl | rfl | rfl | rfl : x = 0 ∨ x = 1 ∨ x = 2 ∨ x = 3 ∨ x = 4 ∨ x = 5 ∨ x = 6 ∨ x = 7 ∨ x = 8 ∨ x = 9 ∨ x = 10 ∨ x = 11 ∨ x = 12 ∨ x = 13 := by omega
        · exact xx_tfT_0 ht (by omega) (yy_tfT (x := 0) ht (by omega) (by omega) hF (fun _ => ⟨tf_0 hF t (by omega), J⟩) (fun _ z => absurd z (by omega)) (fun _ _ => ⟨tf_0 hF t (by omega), J⟩))
        · exact xx_tfT_1 ht (by omega) (yy_tfT (x := 1) ht (by omega) (by omega) hF (fun _ => ⟨tf_1 hF t (by omega), J⟩) (fun _ z => absurd z (by omega)) (fun _ _ => ⟨tf_1 hF t (by omega), J⟩))
        · exact xx_tfT_2 ht (by omega) (yy_tfT (x := 2) ht (by omega) (by omega) hF (fun _ => ⟨tf_2 hF t (by omega), J⟩) (fun _ z => absurd z (by omega)) (fun _ _ => ⟨tf_2 hF t (by omega), J⟩))
        · exact xx_tfT_3 ht (by omega) (yy_tfT (x := 3) ht (by omega) (by omega) hF (fun _ => ⟨tf_3 hF t (by omega), J⟩) (fun _ z => absurd z (by omega)) (fun _ _ => ⟨tf_3 hF t (by omega), J⟩))
        · exact xx_tfT_4 ht (by omega) (yy_tfT (x := 4) ht (by omega) (by omega) hF (fun _ => ⟨tf_4 hF t ht, J⟩) (fun _ z => absurd z (by omega)) (fun _ _ => ⟨tf_4 hF t ht, J⟩))
        · exact xx_tfT_5 ht (by omega) (fun y => yy_tfT (x := 5) ht (by omega) (by omega) hF (fun z => absurd y z) (fun _ _ => (by first | exact J | exact ⟨rfl, J⟩ | exact ⟨trivial, J⟩)) (fun _ z => absurd (by omega) z)) (fun y => yy_tfT (x := 5) ht (by omega) (by omega) hF (fun _ => ⟨tf_5 hF t (by omega), J⟩) (fun z => absurd z y) (fun z => absurd z y))
        · exact xx_tfT_6 ht (by omega) (fun y => yy_tfT (x := 6) ht (by omega) (by omega) hF (fun z => absurd y z) (fun _ _ => (by first | exact J | exact ⟨rfl, J⟩ | exact ⟨trivial, J⟩)) (fun _ z => absurd (by omega) z)) (fun y => yy_tfT (x := 6) ht (by omega) (by omega) hF (fun _ => ⟨tf_6 hF t (by omega), J⟩) (fun z => absurd z y) (fun z => absurd z y))
        · exact xx_tfT_7 ht (by omega) (fun y => yy_tfT (x := 7) ht (by omega) (by omega) hF (fun z => absurd y z) (fun _ _ => (by first | exact J | exact ⟨rfl, J⟩ | exact ⟨trivial, J⟩)) (fun _ z => absurd (by omega) z)) (fun y => yy_tfT (x := 7) ht (by omega) (by omega) hF (fun _ => ⟨tf_7 hF t (by omega), J⟩) (fun z => absurd z y) (fun z => absurd z y))
        · exact xx_tfT_8 ht (by omega) (yy_tfT (x := 8) ht (by omega) (by omega) hF (fun _ => ⟨tf_8 hF t ht, J⟩) (fun _ z => absurd z (by omega)) (fun _ _ => ⟨tf_8 hF t ht, J⟩))
        · exact xx_tfT_9 ht (by omega) (yy_tfT (x := 9) ht (by omega) (by omega) hF (fun _ => ⟨tf_9 hF t (by omega), J⟩) (fun _ z => absurd z (by omega)) (fun _ _ => ⟨tf_9 hF t (by omega), J⟩))
        · exact xx_tfT_10 ht (by omega) (yy_tfT (x := 10) ht (by omega) (by omega) hF (fun _ => ⟨tf_10 hF t (by omega), J⟩) (fun _ z => absurd z (by omega)) (fun _ _ => ⟨tf_10 hF t (by omega), J⟩))
        · exact xx_tfT_11 ht (by omega) (yy_tfT (x := 11) ht (by omega) (by omega) hF (fun _ => ⟨tf_11 hF t (by omega), J⟩) (fun _ z => absurd z (by omega)) (fun _ _ => ⟨tf_11 hF t (by omega), J⟩))
        · exact xx_tfT_12 ht (by omega) (yy_tfT (x := 12) ht (by omega) (by omega) hF (fun _ => ⟨tf_12 hF t (by omega), J⟩) (fun _ z => absurd z (by omega)) (fun _ _ => ⟨tf_12 hF t (by omega), J⟩))
        · exact xx_tfT_13 ht (by omega) (yy_tfT (x := 13) ht (by omega) (by omega) hF (fun _ => ⟨tf_13 hF t (by omega), J⟩) (fun _ z => absurd z (by omega)) (fun _ _ => ⟨tf_13 hF t (by omega), J⟩))
      · have c13 : ¬ nI x ≤ 13 := nI_ge (a := 13) (by omega) hx
        simp only [wpX_taskFact, wpY_taskFact]
        exact xx_descT ht (by omega) (br_f (by decide) (br_f a (br_f c13 (yy_descT ht (by omega) (br_t (by trivial) (br_f a (br_f c13 (by first | exact J | exact ⟨rfl, J⟩ | exact ⟨trivial, J⟩))))))))
  · by_cases o : op = 0
    · exact bad (Or.inr (Or.inr ⟨rfl, o⟩))
    · have hN6 : N < 6 := by have := b10 o; omega
      by_cases a : v2 < 0
      · simp only [wpX_taskFact, wpY_taskFact]
        exact xx_descD o (by omega) (br_f (by decide) (br_t a (yy_descD o (by omega) (br_t (by trivial) (br_t a (by first | exact J | exact ⟨rfl, J⟩ | exact ⟨trivial, J⟩))))))
      · obtain ⟨x, hx, rfl⟩ := nI_of a
        have hdr := tf_dr hF o
        have hct := tf_ct hF N (Nat.le_refl _) hN6
        by_cases c : x ≤ 13
        · obtain rfl | rfl | rfl | rfl | rfl | rfl | rfl | rfl | rfl | rfl | rfl | rfl | rfl | rfl : x = 0 ∨ x = 1 ∨ x = 2 ∨ x = 3 ∨ x = 4 ∨ x = 5 ∨ x = 6 ∨ x = 7 ∨ x = 8 ∨ x = 9 ∨ x = 10 ∨ x = 11 ∨ x = 12 ∨ x = 13 := by omega
          · exact xx_tfD_0 o hN6 (yy_tfD (x := 0) o hN6 (by omega) hF (fun z => absurd z (by omega)) (fun _ => ⟨tf_0 hF N hN6, J⟩))
          · exact xx_tfD_1 o hN6 (yy_tfD (x := 1) o hN6 (by omega) hF (fun z => absurd z (by omega)) (fun _ => ⟨tf_1 hF N hN6, J⟩))
          · exact xx_tfD_2 o hN6 (yy_tfD (x := 2) o hN6 (by omega) hF (fun z => absurd z (by omega)) (fun _ => ⟨tf_2 hF N hN6, J⟩))
          · exact xx_tfD_3 o hN6 (yy_tfD (x := 3) o hN6 (by omega) hF (fun z => absurd z (by omega)) (fun _ => ⟨tf_3 hF N hN6, J⟩))
          · exact xx_tfD_4 o hN6 (yy_tfD (x := 4) o hN6 (by omega) hF (fun z => absurd z (by omega)) (fun _ => ⟨hdr.1, J⟩))
          · exact xx_tfD_5 o hN6 (yy_tfD (x := 5) o hN6 (by omega) hF (fun _ => (by first | exact J | exact ⟨rfl, J⟩ | exact ⟨trivial, J⟩)) (fun z => absurd (by omega) z))
          · exact xx_tfD_6 o hN6 (yy_tfD (x := 6) o hN6 (by omega) hF (fun _ => (by first | exact J | exact ⟨rfl, J⟩ | exact ⟨trivial, J⟩)) (fun z => absurd (by omega) z))
          · exact xx_tfD_7 o hN6 (yy_tfD (x := 7) o hN6 (by omega) hF (fun _ => (by first | exact J | exact ⟨rfl, J⟩ | exact ⟨trivial, J⟩)) (fun z => absurd (by omega) z))
          · exact xx_tfD_8 o hN6 (yy_tfD (x := 8) o hN6 (by omega) hF (fun z => absurd z (by omega)) (fun _ => ⟨hdr.2, J⟩))
          · exact xx_tfD_9 o hN6 (yy_tfD (x := 9) o hN6 (by omega) hF (fun z => absurd z (by omega)) (fun _ => ⟨(tf_9 hF N hN6).trans hct.1, J⟩))
          · exact xx_tfD_10 o hN6 (yy_tfD (x := 10) o hN6 (by omega) hF (fun z => absurd z (by omega)) (fun _ => ⟨(tf_10 hF N hN6).trans hct.2.1, J⟩))
          · exact xx_tfD_11 o hN6 (yy_tfD (x := 11) o hN6 (by omega) hF (fun z => absurd z (by omega)) (fun _ => ⟨(tf_11 hF N hN6).trans hct.2.2.1, J⟩))
          · exact xx_tfD_12 o hN6 (yy_tfD (x := 12) o hN6 (by omega) hF (fun z => absurd z (by omega)) (fun _ => ⟨(tf_12 hF N hN6).trans hct.2.2.2, J⟩))
          · exact xx_tfD_13 o hN6 (yy_tfD (x := 13) o hN6 (by omega) hF (fun z => absurd z (by omega)) (fun _ => ⟨tf_13 hF N hN6, J⟩))
        · have c13 : ¬ nI x ≤ 13 := nI_ge (a := 13) (by omega) hx
          simp only [wpX_taskFact, wpY_taskFact]
          exact xx_descD o (by omega) (br_f (by decide) (br_f a (br_f c13 (yy_descD o (by omega) (br_t (by trivial) (br_f a (br_f c13 (by first | exact J | exact ⟨rfl, J⟩ | exact ⟨trivial, J⟩))))))))
/-- the reading of a section's fact, behind the test of the task's number -/
theorem yy_heldD {post : Int32 → Prop} {s : Nat} (hs : s < 4) (hop : ¬ op = 0) (hN : N < 6) (h : zz_TF N op xpe xre xwc xus xst xln xdn xdu xnx xco xmi xwo xbl xsc yf) (hp : post 0) : wpY_held post (nI mT, nI mS, nI R, nI mQ, nI T, nI N, op, nI M, nI K, yf, ysec, ysv, yqu, yqt, xcp, xlo, ylg, yfi) (nI N) (nI s) := by
  have hd := (tf_dr h hop).1
  simp (disch := omega) only [wpY_held, hd, nI_clamp, zz_in, zz_m4, zz_m6, zz_m14, zz_m16, nI_add, zz_p0, zz_p1, zz_p2, zz_p3, zz_p4, zz_p5, zz_p6, zz_p7, zz_p8, zz_p9, zz_p10, zz_p11, zz_p12, zz_p13, zz_a16, true_and, forall_eq]
  exact br_f (by decide) hp
theorem i_vc_sectionFact {k : Nat} {u : SX} {v : SY} (I : i_Rel k u v) (hk : k + 5 ≤ 2564) (v1 : Int32) (v2 : Int32) (v3 : Int32) : wpX_sectionFact (fun r => wpY_sectionFact (fun r' => r' = r ∧ i_Rel (k + 5) u v) v v1 v2 v3) u v1 v2 v3 := by
  refine zz_el (P := fun u v => wpX_sectionFact (fun r => wpY_sectionFact (fun r' => r' = r ∧ i_Rel (k + 5) u v) v v1 v2 v3) u v1 v2 v3) ?_ I
  intro mT mS R mQ T N op M K xtr xcp xlo xpe xre xwc xus xst xln xdn xdu xnx xco xmi xwo xbl xsc xrs xun xfr xto xbu xsp xle xsd xex xql xqu xqt xfa yf ysec ysv yqu yqt ylg yfi hR
  have J := zz_mk (zz_up hR)
  obtain ⟨⟨b1, b2, b3, b4, b5, b6, b7, b8, b9, b10⟩, hF, hG, hS, hV, hQ, hL, hN⟩ := hR
  have bad : (v1 < 0 ∨ (¬ v1 < 0 ∧ nI N < v1) ∨ (v1 = nI N ∧ op = 0)) → wpX_sectionFact (fun r => wpY_sectionFact (fun r' => r' = r ∧ i_Rel (k + 5) (nI mT, nI mS, nI R, nI mQ, nI T, nI N, op, nI M, nI K, xtr, xcp, xlo, xpe, xre, xwc, xus, xst, xln, xdn, xdu, xnx, xco, xmi, xwo, xbl, xsc, xrs, xun, xfr, xto, xbu, xsp, xle, xsd, xex, xql, xqu, xqt, xfa) (nI mT, nI mS, nI R, nI mQ, nI T, nI N, op, nI M, nI K, yf, ysec, ysv, yqu, yqt, xcp, xlo, ylg, yfi)) (nI mT, nI mS, nI R, nI mQ, nI T, nI N, op, nI M, nI K, yf, ysec, ysv, yqu, yqt, xcp, xlo, ylg, yfi) v1 v2 v3) (nI mT, nI mS, nI R, nI mQ, nI T, nI N, op, nI M, nI K, xtr, xcp, xlo, xpe, xre, xwc, xus, xst, xln, xdn, xdu, xnx, xco, xmi, xwo, xbl, xsc, xrs, xun, xfr, xto, xbu, xsp, xle, xsd, xex, xql, xqu, xqt, xfa) v1 v2 v3 := by
    intro z
    simp only [wpX_sectionFact, wpY_sectionFact]
    exact xx_descB z (by omega) (br_t (by trivial) (yy_descB z (by omega) (br_f (by decide) (by first | exact J | exact ⟨rfl, J⟩ | exact ⟨trivial, J⟩))))
  have good : ∀ t, t < 6 → v1 = nI t → (t < N ∨ (t = N ∧ ¬ op = 0)) → wpX_sectionFact (fun r => wpY_sectionFact (fun r' => r' = r ∧ i_Rel (k + 5) (nI mT, nI mS, nI R, nI mQ, nI T, nI N, op, nI M, nI K, xtr, xcp, xlo, xpe, xre, xwc, xus, xst, xln, xdn, xdu, xnx, xco, xmi, xwo, xbl, xsc, xrs, xun, xfr, xto, xbu, xsp, xle, xsd, xex, xql, xqu, xqt, xfa) (nI mT, nI mS, nI R, nI mQ, nI T, nI N, op, nI M, nI K, yf, ysec, ysv, yqu, yqt, xcp, xlo, ylg, yfi)) (nI mT, nI mS, nI R, nI mQ, nI T, nI N, op, nI M, nI K, yf, ysec, ysv, yqu, yqt, xcp, xlo, ylg, yfi) v1 v2 v3) (nI mT, nI mS, nI R, nI mQ, nI T, nI N, op, nI M, nI K, xtr, xcp, xlo, xpe, xre, xwc, xus, xst, xln, xdn, xdu, xnx, xco, xmi, xwo, xbl, xsc, xrs, xun, xfr, xto, xbu, xsp, xle, xsd, xex, xql, xqu, xqt, xfa) v1 v2 v3 := by
    intro t ht e hd
    subst e
    have f13 := tf_13 hF
    obtain ⟨s0, s1, s2, s3⟩ := hS
    have hS' : zz_SQ xrs xun xfr xto ysec := ⟨s0, s1, s2, s3⟩
    obtain ⟨c, hc, ec⟩ := zz_nat_ex (hG.1 t ht)
    have dX : ∀ post : Int32 → Prop, post 1 → wpX_isDescribed post (nI mT, nI mS, nI R, nI mQ, nI T, nI N, op, nI M, nI K, xtr, xcp, xlo, xpe, xre, xwc, xus, xst, xln, xdn, xdu, xnx, xco, xmi, xwo, xbl, xsc, xrs, xun, xfr, xto, xbu, xsp, xle, xsd, xex, xql, xqu, xqt, xfa) (nI t) := by
      intro post hp
      rcases hd with z | ⟨z1, z2⟩
      · exact xx_descT z (by omega) hp
      · subst z1; exact xx_descD z2 (by omega) hp
    have dY : ∀ post : Int32 → Prop, post 0 → wpY_noTask post (nI mT, nI mS, nI R, nI mQ, nI T, nI N, op, nI M, nI K, yf, ysec, ysv, yqu, yqt, xcp, xlo, ylg, yfi) (nI t) := by
      intro post hp
      rcases hd with z | ⟨z1, z2⟩
      · exact yy_descT z (by omega) hp
      · subst z1; exact yy_descD z2 (by omega) hp
    simp (disch := omega) only [wpX_sectionFact, wpY_sectionFact, f13, ec, nI_clamp, zz_in, zz_m4, zz_m6, zz_m14, zz_m16, nI_add, zz_p0, zz_p1, zz_p2, zz_p3, zz_p4, zz_p5, zz_p6, zz_p7, zz_p8, zz_p9, zz_p10, zz_p11, zz_p12, zz_p13, zz_a16, true_and, forall_eq]
    refine dX _ (br_f (by decide) ?_)
    by_cases a : v2 < 0
    · exact br_t a (dY _ (br_t (by trivial) (br_t a (by first | exact J | exact ⟨rfl, J⟩ | exact ⟨trivial, J⟩))))
    · obtain ⟨s, hs, rfl⟩ := nI_of a
      refine br_f a ?_
      by_cases hsc : s < c
      · have hlt : nI s < nI c := nI_lt hsc (by omega)
        have hnl : ¬ nI c ≤ nI s := nI_ge hsc (by omega)
        refine br_t hlt ?_
        by_cases a3 : v3 < 0
        · exact br_t a3 (dY _ (br_t (by trivial) (br_f a (br_f hnl (br_t a3 (by first | exact J | exact ⟨rfl, J⟩ | exact ⟨trivial, J⟩))))))
        · obtain ⟨x, hx, rfl⟩ := nI_of a3
          refine br_f a3 ?_
          by_cases c4 : x ≤ 4
          · have c4' : nI x ≤ 4 := nI_le (b := 4) c4 (by decide)
            refine br_t c4' ?_
            simp (disch := omega) only [nI_0, nI_clamp, zz_in, zz_m4, zz_m6, zz_m14, zz_m16, nI_add, zz_p0, zz_p1, zz_p2, zz_p3, zz_p4, zz_p5, zz_p6, zz_p7, zz_p8, zz_p9, zz_p10, zz_p11, zz_p12, zz_p13, zz_a16, true_and, forall_eq]
            obtain rfl | rfl | rfl | rfl | rfl : x = 0 ∨ x = 1 ∨ x = 2 ∨ x = 3 ∨ x = 4 := by omega
            · exact br_t (by decide) (dY _ (br_t (by trivial) (br_f a (br_f hnl (br_f a3 (br_t c4' (br_f (by decide) ⟨s0 t s ht (by omega), J⟩)))))))
            · exact br_f (by decide) (br_t (by decide) (dY _ (br_t (by trivial) (br_f a (br_f hnl (br_f a3 (br_t c4' (br_f (by decide) ⟨s1 t s ht (by omega), J⟩))))))))
            · exact br_f (by decide) (br_f (by decide) (br_t (by decide) (dY _ (br_t (by trivial) (br_f a (br_f hnl (br_f a3 (br_t c4' (br_f (by decide) ⟨s2 t s ht (by omega), J⟩)))))))))
            · exact br_f (by decide) (br_f (by decide) (br_f (by decide) (br_t (by decide) (dY _ (br_t (by trivial) (br_f a (br_f hnl (br_f a3 (br_t c4' (br_f (by decide) ⟨s3 t s ht (by omega), J⟩))))))))))
            · refine br_f (by decide) (br_f (by decide) (br_f (by decide) (br_f (by decide) ?_)))
              rcases hd with z | ⟨z1, z2⟩
              · refine br_f (nI_ge z (by omega)) (xx_isHeld ht (by omega) (fun q => br_f (by decide) ?_) (fun q => br_t (by trivial) ?_))
                · exact dY _ (br_t (by trivial) (br_f a (br_f hnl (br_f a3 (br_t c4' (br_t (by decide) (yy_held z (by omega) (by omega) (tf_fq hF) hS' (fun _ => br_f (by decide) (by first | exact J | exact ⟨rfl, J⟩ | exact ⟨trivial, J⟩)) (fun y => absurd q y))))))))
                · exact dY _ (br_t (by trivial) (br_f a (br_f hnl (br_f a3 (br_t c4' (br_t (by decide) (yy_held z (by omega) (by omega) (tf_fq hF) hS' (fun y => absurd y q) (fun _ => br_t (by trivial) (by first | exact J | exact ⟨rfl, J⟩ | exact ⟨trivial, J⟩)))))))))
              · subst z1
                exact br_t (Int32.le_refl _) (dY _ (br_t (by trivial) (br_f a (br_f hnl (br_f a3 (br_t c4' (br_t (by decide) (yy_heldD (by omega) z2 ht hF (br_t (by trivial) (by first | exact J | exact ⟨rfl, J⟩ | exact ⟨trivial, J⟩))))))))))
          · have c4' : ¬ nI x ≤ 4 := nI_ge (a := 4) (by omega) hx
            exact br_f c4' (dY _ (br_t (by trivial) (br_f a (br_f hnl (br_f a3 (br_f c4' (by first | exact J | exact ⟨rfl, J⟩ | exact ⟨trivial, J⟩)))))))
      · have hlt : ¬ nI s < nI c := nI_nlt (by omega) hs
        have hnl : nI c ≤ nI s := nI_le (by omega) hs
        exact br_f hlt (dY _ (br_t (by trivial) (br_f a (br_t hnl (by first | exact J | exact ⟨rfl, J⟩ | exact ⟨trivial, J⟩)))))
  rcases zz_desc v1 (n := N) (by omega) with z | z | ⟨t, ht, e⟩ | e
  · exact bad (Or.inl z)
  · exact bad (Or.inr (Or.inl z))
  · exact good t (by omega) e (Or.inl ht)
  · by_cases o : op = 0
    · exact bad (Or.inr (Or.inr ⟨e, o⟩))
    · exact good N (by have := b10 o; omega) e (Or.inr ⟨rfl, o⟩)
end
section
/-! the constructors; provide, draft, shorten -/
variable {mT mS R mQ T N M K : Nat} {op : Int32} {xtr xcp xlo xpe xre xwc xus xst xln xdn xdu xnx xco xmi xwo xbl xsc xrs xun xfr xto xbu xsp xle xsd xex xql xqu xqt xfa : Nat → Int32} {yf ysec ysv yqu yqt ylg yfi : Nat → Int32}
def zz_clamp (p b : Int32) : Int32 := if 1 ≤ p then (if p ≤ b then p else b) else 1
theorem zz_clamp_law (p : Int32) {b : Nat} (hb : 1 ≤ b) (hb2 : b < 2 ^ 31) : ∃ c, c ≤ b ∧ zz_clamp p (nI b) = nI c := by
  unfold zz_clamp
  by_cases h : 1 ≤ p
  · rw [if_pos h]
    by_cases h2 : p ≤ nI b
    · rw [if_pos h2]
      obtain ⟨c, hc, ec⟩ := zz_nat_ex (zz_nat_of (b := b) (x := p) (fun z => by
        rw [Int32.lt_iff_toInt_lt, show (0 : Int32).toInt = 0 from by decide] at z
        rw [Int32.le_iff_toInt_le, show (1 : Int32).toInt = 1 from by decide] at h
        omega) h2 hb2)
      exact ⟨c, hc, ec⟩
    · rw [if_neg h2]
      exact ⟨b, Nat.le_refl _, rfl⟩
  · rw [if_neg h]
    exact ⟨1, hb, rfl⟩
theorem xx_clamp {post : Int32 → Prop} {u : SX} {p b : Int32} (h : post (zz_clamp p b)) : wpX_clamp post u p b := by
  obtain ⟨a0, a1, a2, a3, a4, a5, a6, a7, a8, a9, a10, a11, a12, a13, a14, a15, a16, a17, a18, a19, a20, a21, a22, a23, a24, a25, a26, a27, a28, a29, a30, a31, a32, a33, a34, a35, a36, a37, a38⟩ := u
  unfold zz_clamp at h
  simp only [wpX_clamp]
  refine br_c (fun a => br_c (fun c => ?_) (fun c => ?_)) (fun a => ?_)
  · rw [if_pos a, if_pos c] at h; exact h
  · rw [if_pos a, if_neg c] at h; exact h
  · rw [if_neg a] at h; exact h
theorem yy_clamp {post : Int32 → Prop} {u : SY} {p b : Int32} (h : post (zz_clamp p b)) : wpY_clamp post u p b := by
  obtain ⟨a0, a1, a2, a3, a4, a5, a6, a7, a8, a9, a10, a11, a12, a13, a14, a15, a16, a17⟩ := u
  unfold zz_clamp at h
  simp only [wpY_clamp]
  refine br_c (fun a => br_c (fun c => ?_) (fun c => ?_)) (fun a => ?_)
  · rw [if_pos a, if_pos c] at h; exact h
  · rw [if_pos a, if_neg c] at h; exact h
  · rw [if_neg a] at h; exact h
theorem xx_init {post : SX → Prop} {c : Nat → Int32} (h : post (nI mT, nI mS, nI R, nI mQ, nI T, nI N, op, nI M, nI K, xtr, zz_fold (fun i c => upd c i 1) 3 0 c, zz_fold (fun i c => upd c i 1) 3 0 c, xpe, xre, xwc, xus, xst, xln, xdn, xdu, xnx, xco, xmi, xwo, xbl, xsc, xrs, xun, xfr, xto, xbu, xsp, xle, xsd, xex, xql, xqu, xqt, xfa)) : ∃ n : Nat, wX_init_307 post (nI mT) (nI mS) (nI R) (nI mQ) (nI T) (nI N) op (nI M) (nI K) n 0 xtr c c xpe xre xwc xus xst xln xdn xdu xnx xco xmi xwo xbl xsc xrs xun xfr xto xbu xsp xle xsd xex xql xqu xqt xfa := by
  refine ⟨_, zz_loop (fun n i c => wX_init_307 post (nI mT) (nI mS) (nI R) (nI mQ) (nI T) (nI N) op (nI M) (nI K) n (nI i) xtr c c xpe xre xwc xus xst xln xdn xdu xnx xco xmi xwo xbl xsc xrs xun xfr xto xbu xsp xle xsd xex xql xqu xqt xfa) (fun i c => upd c i 1) 3 (fun c => post (nI mT, nI mS, nI R, nI mQ, nI T, nI N, op, nI M, nI K, xtr, c, c, xpe, xre, xwc, xus, xst, xln, xdn, xdu, xnx, xco, xmi, xwo, xbl, xsc, xrs, xun, xfr, xto, xbu, xsp, xle, xsd, xex, xql, xqu, xqt, xfa)) ?_ ?_ 3 0 c _ (Nat.zero_add _) (Nat.lt_succ_self _) h⟩
  · intro n a hp
    rw [wX_init_307]
    exact br_t (by decide) hp
  · intro n i a hi hw
    rw [wX_init_307]
    simp (disch := omega) only [nI_0, nI_clamp, zz_in, zz_m4, zz_m6, zz_m14, zz_m16, nI_add, zz_p0, zz_p1, zz_p2, zz_p3, zz_p4, zz_p5, zz_p6, zz_p7, zz_p8, zz_p9, zz_p10, zz_p11, zz_p12, zz_p13, zz_a16, true_and, forall_eq]
    exact br_f (nI_ge (b := 3) hi (by decide)) hw
theorem yy_init {post : SY → Prop} {c : Nat → Int32} (h : post (nI mT, nI mS, nI R, nI mQ, nI T, nI N, op, nI M, nI K, yf, ysec, ysv, yqu, yqt, zz_fold (fun i c => upd c i 1) 3 0 c, zz_fold (fun i c => upd c i 1) 3 0 c, ylg, yfi)) : ∃ n : Nat, wY_init_122 post (nI mT) (nI mS) (nI R) (nI mQ) (nI T) (nI N) op (nI M) (nI K) n 0 yf ysec ysv yqu yqt c c ylg yfi := by
  refine ⟨_, zz_loop (fun n i c => wY_init_122 post (nI mT) (nI mS) (nI R) (nI mQ) (nI T) (nI N) op (nI M) (nI K) n (nI i) yf ysec ysv yqu yqt c c ylg yfi) (fun i c => upd c i 1) 3 (fun c => post (nI mT, nI mS, nI R, nI mQ, nI T, nI N, op, nI M, nI K, yf, ysec, ysv, yqu, yqt, c, c, ylg, yfi)) ?_ ?_ 3 0 c _ (Nat.zero_add _) (Nat.lt_succ_self _) h⟩
  · intro n a hp
    rw [wY_init_122]
    exact br_t (by decide) hp
  · intro n i a hi hw
    rw [wY_init_122]
    simp (disch := omega) only [nI_0, nI_clamp, zz_in, zz_m4, zz_m6, zz_m14, zz_m16, nI_add, zz_p0, zz_p1, zz_p2, zz_p3, zz_p4, zz_p5, zz_p6, zz_p7, zz_p8, zz_p9, zz_p10, zz_p11, zz_p12, zz_p13, zz_a16, true_and, forall_eq]
    exact br_f (nI_ge (b := 3) hi (by decide)) hw
theorem zz_R0 (h1 : mT ≤ 6) (h2 : mS ≤ 3) (h3 : R ≤ 3) (h4 : mQ ≤ 6) : zz_RR 4 mT mS R mQ 0 0 0 0 0 (fun _ => 0) xcp xlo (fun _ => 0) (fun _ => 0) (fun _ => 0) (fun _ => 0) (fun _ => 0) (fun _ => 0) (fun _ => 0) (fun _ => 0) (fun _ => 0) (fun _ => 0) (fun _ => 0) (fun _ => 0) (fun _ => 0) (fun _ => 0) (fun _ => 0) (fun _ => 0) (fun _ => 0) (fun _ => 0) (fun _ => 0) (fun _ => 0) (fun _ => 0) (fun _ => 0) (fun _ => 0) (fun _ => 0) (fun _ => 0) (fun _ => 0) (fun _ => 0) (fun _ => 0) (fun _ => 0) (fun _ => 0) (fun _ => 0) (fun _ => 0) (fun _ => 0) (fun _ => 0) := by
  refine ⟨⟨h1, h2, h3, h4, by omega, by omega, by omega, by omega, Or.inl rfl, fun z => absurd rfl z⟩, ⟨fun t _ => rfl, fun t _ => rfl, fun t _ => rfl, fun t _ => rfl, fun t _ => rfl, fun t _ => rfl, fun t _ => rfl, fun t _ => rfl, fun t _ => rfl, fun t _ => rfl, fun t _ => rfl, fun t _ => rfl, fun t _ => rfl, fun t _ => rfl, fun z => absurd rfl z, fun t _ _ => ⟨rfl, rfl, rfl, rfl⟩, fun t ht => absurd ht (by omega)⟩, ⟨fun t _ => zz_nat_0 4 (by decide), fun t _ => zz_nat_0 30 (by decide), fun t _ => zz_nat_0 30 (by decide), fun q _ => zz_nat_0 30 (by decide), fun q _ => zz_nat_0 30 (by decide), fun t _ s hs => ?_⟩, ⟨fun t s _ _ => rfl, fun t s _ _ => rfl, fun t s _ _ => rfl, fun t s _ _ => rfl⟩, ⟨fun s _ => rfl, fun s _ => rfl, fun s _ => rfl, fun s _ => rfl, fun s _ => rfl, fun s _ => rfl, fun s _ _ => ⟨rfl, rfl⟩⟩, fun s _ => ⟨zz_nat_0 mQ (by omega), fun p hp => ?_⟩, fun j hj => absurd hj (by omega), fun j hj => absurd hj (by omega), fun j _ => rfl⟩
  · have e : zc (0 : Int32) = 0 := by decide
    rw [e] at hs
    omega
  · have e : zc (0 : Int32) = 0 := by decide
    rw [e] at hp
    omega
theorem i_vc0 (k0 : Int32) (k1 : Int32) (k2 : Int32) (k3 : Int32) : wpX_init (fun u => wpY_init (fun v => i_Rel 4 u v) k0 k1 k2 k3) k0 k1 k2 k3 := by
  obtain ⟨mT, h1, e1⟩ := zz_clamp_law k0 (b := 6) (by decide) (by decide)
  obtain ⟨mS, h2, e2⟩ := zz_clamp_law k1 (b := 3) (by decide) (by decide)
  obtain ⟨R, h3, e3⟩ := zz_clamp_law k2 (b := 3) (by decide) (by decide)
  obtain ⟨mQ, h4, e4⟩ := zz_clamp_law k3 (b := 6) (by decide) (by decide)
  have e1' : zz_clamp k0 6 = nI mT := e1
  have e2' : zz_clamp k1 3 = nI mS := e2
  have e3' : zz_clamp k2 3 = nI R := e3
  have e4' : zz_clamp k3 6 = nI mQ := e4
  unfold wpX_init
  refine xx_clamp (xx_clamp (xx_clamp (xx_clamp ?_)))
  rw [e1', e2', e3', e4']
  refine xx_init (mT := mT) (mS := mS) (R := R) (mQ := mQ) (T := 0) (N := 0) (op := 0) (M := 0) (K := 0) (xtr := fun _ => 0) (xpe := fun _ => 0) (xre := fun _ => 0) (xwc := fun _ => 0) (xus := fun _ => 0) (xst := fun _ => 0) (xln := fun _ => 0) (xdn := fun _ => 0) (xdu := fun _ => 0) (xnx := fun _ => 0) (xco := fun _ => 0) (xmi := fun _ => 0) (xwo := fun _ => 0) (xbl := fun _ => 0) (xsc := fun _ => 0) (xrs := fun _ => 0) (xun := fun _ => 0) (xfr := fun _ => 0) (xto := fun _ => 0) (xbu := fun _ => 0) (xsp := fun _ => 0) (xle := fun _ => 0) (xsd := fun _ => 0) (xex := fun _ => 0) (xql := fun _ => 0) (xqu := fun _ => 0) (xqt := fun _ => 0) (xfa := fun _ => 0) (c := fun _ => 0) ?_
  unfold wpY_init
  refine yy_clamp (yy_clamp (yy_clamp (yy_clamp ?_)))
  rw [e1', e2', e3', e4']
  exact yy_init (mT := mT) (mS := mS) (R := R) (mQ := mQ) (T := 0) (N := 0) (op := 0) (M := 0) (K := 0) (yf := fun _ => 0) (ysec := fun _ => 0) (ysv := fun _ => 0) (yqu := fun _ => 0) (yqt := fun _ => 0) (ylg := fun _ => 0) (yfi := fun _ => 0) (c := fun _ => 0) (zz_mk (zz_R0 h1 h2 h3 h4))
theorem i_vc_provide {k : Nat} {u : SX} {v : SY} (I : i_Rel k u v) (hk : k + 5 ≤ 2564) (v1 : Int32) (v2 : Int32) : wpX_provide (fun r u' => wpY_provide (fun r' v' => r' = r ∧ i_Rel (k + 5) u' v') v v1 v2) u v1 v2 := by
  refine zz_el (P := fun u v => wpX_provide (fun r u' => wpY_provide (fun r' v' => r' = r ∧ i_Rel (k + 5) u' v') v v1 v2) u v1 v2) ?_ I
  intro mT mS R mQ T N op M K xtr xcp xlo xpe xre xwc xus xst xln xdn xdu xnx xco xmi xwo xbl xsc xrs xun xfr xto xbu xsp xle xsd xex xql xqu xqt xfa yf ysec ysv yqu yqt ylg yfi hR
  have hR0 := zz_up hR
  have J := zz_mk hR0
  obtain ⟨⟨b1, b2, b3, b4, b5, b6, b7, b8, b9, b10⟩, hF, hG, hS, hV, hQ, hL, hN⟩ := hR
  simp only [wpX_provide, wpY_provide]
  refine xx_isResource b3 (fun j hj e => ?_) (fun z => br_t (by trivial) (yr_bad2 z (by first | exact J | exact ⟨rfl, J⟩ | exact ⟨trivial, J⟩)))
  subst e
  have n1 : ¬ nI j < 0 := nI_pos (by omega)
  have n2 : ¬ nI R ≤ nI j := nI_ge hj (by omega)
  have vin : vp_in (nI j) 3 := vp_in_nI (by omega) (by decide)
  refine br_f (by decide) (br_c (fun a1 => br_f n1 (br_f n2 (br_t a1 (by first | exact J | exact ⟨rfl, J⟩ | exact ⟨trivial, J⟩)))) (fun a1 => br_c (fun a2 => br_c (fun a3 => br_f n1 (br_f n2 (br_f a1 (br_t a2 (br_t a3 (by first | exact J | exact ⟨rfl, J⟩ | exact ⟨trivial, J⟩)))))) (fun a3 => br_c (fun a4 => ⟨vin, nm_e ⟨vin, nm_e (br_f n1 (br_f n2 (br_f a1 (br_t a2 (br_f a3 (br_t a4 ⟨vin, nm_e ⟨vin, nm_e ?_⟩⟩))))))⟩⟩) (fun a4 => br_f n1 (br_f n2 (br_f a1 (br_t a2 (br_f a3 (br_f a4 (by first | exact J | exact ⟨rfl, J⟩ | exact ⟨trivial, J⟩))))))))) (fun a2 => br_f n1 (br_f n2 (br_f a1 (br_f a2 (by first | exact J | exact ⟨rfl, J⟩ | exact ⟨trivial, J⟩)))))))
  exact ⟨by trivial, zz_mk (mT := mT) (mS := mS) (R := R) (mQ := mQ) (T := T) (N := N) (op := op) (M := M) (K := K) (xtr := xtr) (xcp := upd xcp (nI j).toNatClampNeg v2) (xlo := upd xlo (nI j).toNatClampNeg v2) (xpe := xpe) (xre := xre) (xwc := xwc) (xus := xus) (xst := xst) (xln := xln) (xdn := xdn) (xdu := xdu) (xnx := xnx) (xco := xco) (xmi := xmi) (xwo := xwo) (xbl := xbl) (xsc := xsc) (xrs := xrs) (xun := xun) (xfr := xfr) (xto := xto) (xbu := xbu) (xsp := xsp) (xle := xle) (xsd := xsd) (xex := xex) (xql := xql) (xqu := xqu) (xqt := xqt) (xfa := xfa) (yf := yf) (ysec := ysec) (ysv := ysv) (yqu := yqu) (yqt := yqt) (ylg := ylg) (yfi := yfi) hR0⟩
theorem i_vc_shorten {k : Nat} {u : SX} {v : SY} (I : i_Rel k u v) (hk : k + 5 ≤ 2564) (v1 : Int32) (v2 : Int32) : wpX_shorten (fun r u' => wpY_shorten (fun r' v' => r' = r ∧ i_Rel (k + 5) u' v') v v1 v2) u v1 v2 := by
  refine zz_el (P := fun u v => wpX_shorten (fun r u' => wpY_shorten (fun r' v' => r' = r ∧ i_Rel (k + 5) u' v') v v1 v2) u v1 v2) ?_ I
  intro mT mS R mQ T N op M K xtr xcp xlo xpe xre xwc xus xst xln xdn xdu xnx xco xmi xwo xbl xsc xrs xun xfr xto xbu xsp xle xsd xex xql xqu xqt xfa yf ysec ysv yqu yqt ylg yfi hR
  have hR0 := zz_up hR
  have J := zz_mk hR0
  obtain ⟨⟨b1, b2, b3, b4, b5, b6, b7, b8, b9, b10⟩, hF, hG, hS, hV, hQ, hL, hN⟩ := hR
  simp only [wpX_shorten, wpY_shorten]
  refine xx_isAdmitted (by omega) (fun t ht e => ?_) (fun z => br_t (by trivial) (yr_bad z (by first | exact J | exact ⟨rfl, J⟩ | exact ⟨trivial, J⟩)))
  subst e
  have n1 : ¬ nI t < 0 := nI_pos (by omega)
  have n2 : nI t < nI N := nI_lt ht (by omega)
  have f2 := tf_2 hF
  refine br_f (by decide) ?_
  simp (disch := omega) only [f2, nI_clamp, zz_in, zz_m4, zz_m6, zz_m14, zz_m16, nI_add, zz_p0, zz_p1, zz_p2, zz_p3, zz_p4, zz_p5, zz_p6, zz_p7, zz_p8, zz_p9, zz_p10, zz_p11, zz_p12, zz_p13, zz_a16, true_and, forall_eq]
  refine br_c (fun a1 => br_f n1 (br_t n2 (br_t a1 (by first | exact J | exact ⟨rfl, J⟩ | exact ⟨trivial, J⟩)))) (fun a1 => br_c (fun a2 => br_f n1 (br_t n2 (br_f a1 (br_t a2 ?_)))) (fun a2 => br_f n1 (br_t n2 (br_f a1 (br_f a2 (by first | exact J | exact ⟨rfl, J⟩ | exact ⟨trivial, J⟩))))))
  have J := zz_mk (k := k + 5) (mT := mT) (mS := mS) (R := R) (mQ := mQ) (T := T) (N := N) (op := op) (M := M) (K := K) (xtr := xtr) (xcp := xcp) (xlo := xlo) (xpe := xpe) (xre := xre) (xwc := xwc) (xus := upd xus t v2) (xst := xst) (xln := xln) (xdn := xdn) (xdu := xdu) (xnx := xnx) (xco := xco) (xmi := xmi) (xwo := xwo) (xbl := xbl) (xsc := xsc) (xrs := xrs) (xun := xun) (xfr := xfr) (xto := xto) (xbu := xbu) (xsp := xsp) (xle := xle) (xsd := xsd) (xex := xex) (xql := xql) (xqu := xqu) (xqt := xqt) (xfa := xfa) (yf := upd yf (14 * t + 3) v2) (ysec := ysec) (ysv := ysv) (yqu := yqu) (yqt := yqt) (ylg := ylg) (yfi := yfi) ⟨⟨b1, b2, b3, b4, b5, b6, b7, by omega, b9, b10⟩, tf_u3 ht hF, hG, hS, hV, hQ, hL, hN⟩
  exact (by first | exact J | exact ⟨rfl, J⟩ | exact ⟨trivial, J⟩)
theorem zz_col_gb {w n x t0 : Nat} {f g : Nat → Int32} {v : Int32} (ht0 : n ≤ t0) (h : zz_col w n f x g) : zz_col w n f x (upd g t0 v) := by
  intro t ht
  rw [pk_un (by omega)]
  exact h t ht
theorem zz_1of {x y : Int32} {b : Nat} (hb : b < 2 ^ 31) (h1 : ¬ x < 1) (h2 : x ≤ y) (hy : zz_nat b y) : zz_nat b x := by
  obtain ⟨c, hc, e⟩ := zz_nat_ex hy
  subst e
  refine zz_nat_of (fun z => h1 ?_) ?_ hb
  · rw [Int32.lt_iff_toInt_lt, show (0 : Int32).toInt = 0 from by decide] at z
    rw [Int32.lt_iff_toInt_lt, show (1 : Int32).toInt = 1 from by decide]
    omega
  · exact Int32.le_trans h2 (nI_le hc hb)
theorem tf_draft {v1 v2 v3 : Int32} (hN : N < 6) (h : zz_TF N op xpe xre xwc xus xst xln xdn xdu xnx xco xmi xwo xbl xsc yf) : zz_TF N 1 (upd xpe N v1) (upd xre N v2) (upd xwc N v3) (upd xus N v3) (upd xst N 0) xln xdn xdu xnx xco xmi xwo xbl (upd xsc N 0) (upd (upd (upd (upd (upd (upd (upd yf (14 * N) (v1)) (14 * N + 1) (v2)) (14 * N + 2) (v3)) (14 * N + 3) (v3)) (14 * N + 4) (3)) (14 * N + 8) (-6)) (14 * N + 13) (0)) := by
  have c0 : zz_col 14 6 (upd (upd (upd (upd (upd (upd (upd yf (14 * N + 0) (v1)) (14 * N + 1) (v2)) (14 * N + 2) (v3)) (14 * N + 3) (v3)) (14 * N + 4) (3)) (14 * N + 8) (-6)) (14 * N + 13) (0)) 0 (upd xpe N v1) := zz_col_o (by decide) (by decide) (by decide) (zz_col_o (by decide) (by decide) (by decide) (zz_col_o (by decide) (by decide) (by decide) (zz_col_o (by decide) (by decide) (by decide) (zz_col_o (by decide) (by decide) (by decide) (zz_col_o (by decide) (by decide) (by decide) (zz_col_s (by decide) (h.1)))))))
  have c1 : zz_col 14 6 (upd (upd (upd (upd (upd (upd (upd yf (14 * N + 0) (v1)) (14 * N + 1) (v2)) (14 * N + 2) (v3)) (14 * N + 3) (v3)) (14 * N + 4) (3)) (14 * N + 8) (-6)) (14 * N + 13) (0)) 1 (upd xre N v2) := zz_col_o (by decide) (by decide) (by decide) (zz_col_o (by decide) (by decide) (by decide) (zz_col_o (by decide) (by decide) (by decide) (zz_col_o (by decide) (by decide) (by decide) (zz_col_o (by decide) (by decide) (by decide) (zz_col_s (by decide) (zz_col_o (by decide) (by decide) (by decide) (h.2.1)))))))
  have c2 : zz_col 14 6 (upd (upd (upd (upd (upd (upd (upd yf (14 * N + 0) (v1)) (14 * N + 1) (v2)) (14 * N + 2) (v3)) (14 * N + 3) (v3)) (14 * N + 4) (3)) (14 * N + 8) (-6)) (14 * N + 13) (0)) 2 (upd xwc N v3) := zz_col_o (by decide) (by decide) (by decide) (zz_col_o (by decide) (by decide) (by decide) (zz_col_o (by decide) (by decide) (by decide) (zz_col_o (by decide) (by decide) (by decide) (zz_col_s (by decide) (zz_col_o (by decide) (by decide) (by decide) (zz_col_o (by decide) (by decide) (by decide) (h.2.2.1)))))))
  have c3 : zz_col 14 6 (upd (upd (upd (upd (upd (upd (upd yf (14 * N + 0) (v1)) (14 * N + 1) (v2)) (14 * N + 2) (v3)) (14 * N + 3) (v3)) (14 * N + 4) (3)) (14 * N + 8) (-6)) (14 * N + 13) (0)) 3 (upd xus N v3) := zz_col_o (by decide) (by decide) (by decide) (zz_col_o (by decide) (by decide) (by decide) (zz_col_o (by decide) (by decide) (by decide) (zz_col_s (by decide) (zz_col_o (by decide) (by decide) (by decide) (zz_col_o (by decide) (by decide) (by decide) (zz_col_o (by decide) (by decide) (by decide) (h.2.2.2.1)))))))
  have c4 : zz_col 14 N (upd (upd (upd (upd (upd (upd (upd yf (14 * N + 0) (v1)) (14 * N + 1) (v2)) (14 * N + 2) (v3)) (14 * N + 3) (v3)) (14 * N + 4) (3)) (14 * N + 8) (-6)) (14 * N + 13) (0)) 4 (upd xst N 0) := zz_col_b (by decide) (by decide) (Nat.le_refl _) (zz_col_b (by decide) (by decide) (Nat.le_refl _) (zz_col_b (by decide) (by decide) (Nat.le_refl _) (zz_col_b (by decide) (by decide) (Nat.le_refl _) (zz_col_b (by decide) (by decide) (Nat.le_refl _) (zz_col_b (by decide) (by decide) (Nat.le_refl _) (zz_col_b (by decide) (by decide) (Nat.le_refl _) (zz_col_gb (Nat.le_refl _) (h.2.2.2.2.1))))))))
  have c5 : zz_col 14 6 (upd (upd (upd (upd (upd (upd (upd yf (14 * N + 0) (v1)) (14 * N + 1) (v2)) (14 * N + 2) (v3)) (14 * N + 3) (v3)) (14 * N + 4) (3)) (14 * N + 8) (-6)) (14 * N + 13) (0)) 5 (xln) := zz_col_o (by decide) (by decide) (by decide) (zz_col_o (by decide) (by decide) (by decide) (zz_col_o (by decide) (by decide) (by decide) (zz_col_o (by decide) (by decide) (by decide) (zz_col_o (by decide) (by decide) (by decide) (zz_col_o (by decide) (by decide) (by decide) (zz_col_o (by decide) (by decide) (by decide) (h.2.2.2.2.2.1)))))))
  have c6 : zz_col 14 6 (upd (upd (upd (upd (upd (upd (upd yf (14 * N + 0) (v1)) (14 * N + 1) (v2)) (14 * N + 2) (v3)) (14 * N + 3) (v3)) (14 * N + 4) (3)) (14 * N + 8) (-6)) (14 * N + 13) (0)) 6 (xdn) := zz_col_o (by decide) (by decide) (by decide) (zz_col_o (by decide) (by decide) (by decide) (zz_col_o (by decide) (by decide) (by decide) (zz_col_o (by decide) (by decide) (by decide) (zz_col_o (by decide) (by decide) (by decide) (zz_col_o (by decide) (by decide) (by decide) (zz_col_o (by decide) (by decide) (by decide) (h.2.2.2.2.2.2.1)))))))
  have c7 : zz_col 14 6 (upd (upd (upd (upd (upd (upd (upd yf (14 * N + 0) (v1)) (14 * N + 1) (v2)) (14 * N + 2) (v3)) (14 * N + 3) (v3)) (14 * N + 4) (3)) (14 * N + 8) (-6)) (14 * N + 13) (0)) 7 (xdu) := zz_col_o (by decide) (by decide) (by decide) (zz_col_o (by decide) (by decide) (by decide) (zz_col_o (by decide) (by decide) (by decide) (zz_col_o (by decide) (by decide) (by decide) (zz_col_o (by decide) (by decide) (by decide) (zz_col_o (by decide) (by decide) (by decide) (zz_col_o (by decide) (by decide) (by decide) (h.2.2.2.2.2.2.2.1)))))))
  have c8 : zz_col 14 N (upd (upd (upd (upd (upd (upd (upd yf (14 * N + 0) (v1)) (14 * N + 1) (v2)) (14 * N + 2) (v3)) (14 * N + 3) (v3)) (14 * N + 4) (3)) (14 * N + 8) (-6)) (14 * N + 13) (0)) 8 (xnx) := zz_col_b (by decide) (by decide) (Nat.le_refl _) (zz_col_b (by decide) (by decide) (Nat.le_refl _) (zz_col_b (by decide) (by decide) (Nat.le_refl _) (zz_col_b (by decide) (by decide) (Nat.le_refl _) (zz_col_b (by decide) (by decide) (Nat.le_refl _) (zz_col_b (by decide) (by decide) (Nat.le_refl _) (zz_col_b (by decide) (by decide) (Nat.le_refl _) (h.2.2.2.2.2.2.2.2.1)))))))
  have c9 : zz_col 14 6 (upd (upd (upd (upd (upd (upd (upd yf (14 * N + 0) (v1)) (14 * N + 1) (v2)) (14 * N + 2) (v3)) (14 * N + 3) (v3)) (14 * N + 4) (3)) (14 * N + 8) (-6)) (14 * N + 13) (0)) 9 (xco) := zz_col_o (by decide) (by decide) (by decide) (zz_col_o (by decide) (by decide) (by decide) (zz_col_o (by decide) (by decide) (by decide) (zz_col_o (by decide) (by decide) (by decide) (zz_col_o (by decide) (by decide) (by decide) (zz_col_o (by decide) (by decide) (by decide) (zz_col_o (by decide) (by decide) (by decide) (h.2.2.2.2.2.2.2.2.2.1)))))))
  have c10 : zz_col 14 6 (upd (upd (upd (upd (upd (upd (upd yf (14 * N + 0) (v1)) (14 * N + 1) (v2)) (14 * N + 2) (v3)) (14 * N + 3) (v3)) (14 * N + 4) (3)) (14 * N + 8) (-6)) (14 * N + 13) (0)) 10 (xmi) := zz_col_o (by decide) (by decide) (by decide) (zz_col_o (by decide) (by decide) (by decide) (zz_col_o (by decide) (by decide) (by decide) (zz_col_o (by decide) (by decide) (by decide) (zz_col_o (by decide) (by decide) (by decide) (zz_col_o (by decide) (by decide) (by decide) (zz_col_o (by decide) (by decide) (by decide) (h.2.2.2.2.2.2.2.2.2.2.1)))))))
  have c11 : zz_col 14 6 (upd (upd (upd (upd (upd (upd (upd yf (14 * N + 0) (v1)) (14 * N + 1) (v2)) (14 * N + 2) (v3)) (14 * N + 3) (v3)) (14 * N + 4) (3)) (14 * N + 8) (-6)) (14 * N + 13) (0)) 11 (xwo) := zz_col_o (by decide) (by decide) (by decide) (zz_col_o (by decide) (by decide) (by decide) (zz_col_o (by decide) (by decide) (by decide) (zz_col_o (by decide) (by decide) (by decide) (zz_col_o (by decide) (by decide) (by decide) (zz_col_o (by decide) (by decide) (by decide) (zz_col_o (by decide) (by decide) (by decide) (h.2.2.2.2.2.2.2.2.2.2.2.1)))))))
  have c12 : zz_col 14 6 (upd (upd (upd (upd (upd (upd (upd yf (14 * N + 0) (v1)) (14 * N + 1) (v2)) (14 * N + 2) (v3)) (14 * N + 3) (v3)) (14 * N + 4) (3)) (14 * N + 8) (-6)) (14 * N + 13) (0)) 12 (xbl) := zz_col_o (by decide) (by decide) (by decide) (zz_col_o (by decide) (by decide) (by decide) (zz_col_o (by decide) (by decide) (by decide) (zz_col_o (by decide) (by decide) (by decide) (zz_col_o (by decide) (by decide) (by decide) (zz_col_o (by decide) (by decide) (by decide) (zz_col_o (by decide) (by decide) (by decide) (h.2.2.2.2.2.2.2.2.2.2.2.2.1)))))))
  have c13 : zz_col 14 6 (upd (upd (upd (upd (upd (upd (upd yf (14 * N + 0) (v1)) (14 * N + 1) (v2)) (14 * N + 2) (v3)) (14 * N + 3) (v3)) (14 * N + 4) (3)) (14 * N + 8) (-6)) (14 * N + 13) (0)) 13 (upd xsc N 0) := zz_col_s (by decide) (zz_col_o (by decide) (by decide) (by decide) (zz_col_o (by decide) (by decide) (by decide) (zz_col_o (by decide) (by decide) (by decide) (zz_col_o (by decide) (by decide) (by decide) (zz_col_o (by decide) (by decide) (by decide) (zz_col_o (by decide) (by decide) (by decide) (h.2.2.2.2.2.2.2.2.2.2.2.2.2.1)))))))
  refine ⟨c0, c1, c2, c3, c4, c5, c6, c7, c8, c9, c10, c11, c12, c13, fun _ => ⟨?_, ?_⟩, tf_ct h, fun t ht => ?_⟩
  · rw [pk_un (by omega), pk_un (by omega), pk_us]
  · rw [pk_un (by omega), pk_us]
  · rw [pk_un (by omega)]
    exact tf_st h t ht
theorem rg_draft {v2 v3 : Int32} (h2 : zz_nat 30 v2) (h3 : zz_nat 30 v3) (h : zz_RG xre xwc xsc xun xfr xto) : zz_RG (upd xre N v2) (upd xwc N v3) (upd xsc N 0) xun xfr xto := by
  have e0 : zc (0 : Int32) = 0 := by decide
  refine ⟨fun t ht => ?_, fun t ht => ?_, fun t ht => ?_, h.2.2.2.1, h.2.2.2.2.1, fun t ht s hs => ?_⟩
  · by_cases e : t = N
    · subst e; rw [pk_us]; exact zz_nat_0 4 (by decide)
    · rw [pk_un e]; exact h.1 t ht
  · by_cases e : t = N
    · subst e; rw [pk_us]; exact h2
    · rw [pk_un e]; exact h.2.1 t ht
  · by_cases e : t = N
    · subst e; rw [pk_us]; exact h3
    · rw [pk_un e]; exact h.2.2.1 t ht
  · by_cases e : t = N
    · subst e; rw [pk_us, e0] at hs; omega
    · rw [pk_un e] at hs; exact h.2.2.2.2.2 t ht s hs
theorem i_vc_draft {k : Nat} {u : SX} {v : SY} (I : i_Rel k u v) (hk : k + 5 ≤ 2564) (v1 : Int32) (v2 : Int32) (v3 : Int32) : wpX_draft (fun r u' => wpY_draft (fun r' v' => r' = r ∧ i_Rel (k + 5) u' v') v v1 v2 v3) u v1 v2 v3 := by
  refine zz_el (P := fun u v => wpX_draft (fun r u' => wpY_draft (fun r' v' => r' = r ∧ i_Rel (k + 5) u' v') v v1 v2 v3) u v1 v2 v3) ?_ I
  intro mT mS R mQ T N op M K xtr xcp xlo xpe xre xwc xus xst xln xdn xdu xnx xco xmi xwo xbl xsc xrs xun xfr xto xbu xsp xle xsd xex xql xqu xqt xfa yf ysec ysv yqu yqt ylg yfi hR
  have hR0 := zz_up hR
  have J := zz_mk hR0
  obtain ⟨⟨b1, b2, b3, b4, b5, b6, b7, b8, b9, b10⟩, hF, hG, hS, hV, hQ, hL, hN⟩ := hR
  simp only [wpX_draft, wpY_draft]
  by_cases a1 : v1 < 1
  · exact br_t a1 (br_t a1 (by first | exact J | exact ⟨rfl, J⟩ | exact ⟨trivial, J⟩))
  refine br_f a1 ?_
  by_cases a2 : v1 ≤ 30
  case neg => exact br_f a2 (br_f a1 (br_t (Int32.not_le.mp a2) (by first | exact J | exact ⟨rfl, J⟩ | exact ⟨trivial, J⟩)))
  have a2' : ¬ 30 < v1 := Int32.not_lt.mpr a2
  refine br_t a2 ?_
  by_cases a3 : v2 < 1
  · exact br_t a3 (br_f a1 (br_f a2' (br_t a3 (by first | exact J | exact ⟨rfl, J⟩ | exact ⟨trivial, J⟩))))
  refine br_f a3 ?_
  by_cases a4 : v2 ≤ v1
  case neg => exact br_f a4 (br_f a1 (br_f a2' (br_f a3 (br_t (Int32.not_le.mp a4) (by first | exact J | exact ⟨rfl, J⟩ | exact ⟨trivial, J⟩)))))
  have a4' : ¬ v1 < v2 := Int32.not_lt.mpr a4
  refine br_t a4 ?_
  by_cases a5 : v3 < 1
  · exact br_t a5 (br_f a1 (br_f a2' (br_f a3 (br_f a4' (br_t a5 (by first | exact J | exact ⟨rfl, J⟩ | exact ⟨trivial, J⟩))))))
  refine br_f a5 ?_
  by_cases a6 : v3 ≤ v2
  case neg => exact br_f a6 (br_f a1 (br_f a2' (br_f a3 (br_f a4' (br_f a5 (br_f a6 (by first | exact J | exact ⟨rfl, J⟩ | exact ⟨trivial, J⟩)))))))
  refine br_t a6 ?_
  by_cases a7 : N < mT
  case neg =>
    have a7' : ¬ nI N < nI mT := nI_nlt (by omega) (by omega)
    exact br_f a7' (br_f a1 (br_f a2' (br_f a3 (br_f a4' (br_f a5 (br_t a6 (br_f a7' (by first | exact J | exact ⟨rfl, J⟩ | exact ⟨trivial, J⟩))))))))
  have a7' : nI N < nI mT := nI_lt a7 (by omega)
  simp (disch := omega) only [nI_0, nI_clamp, zz_in, zz_m4, zz_m6, zz_m14, zz_m16, nI_add, zz_p0, zz_p1, zz_p2, zz_p3, zz_p4, zz_p5, zz_p6, zz_p7, zz_p8, zz_p9, zz_p10, zz_p11, zz_p12, zz_p13, zz_a16, true_and, forall_eq]
  refine br_t a7' (br_f a1 (br_f a2' (br_f a3 (br_f a4' (br_f a5 (br_t a6 (br_t a7' ?_)))))))
  have z1 : zz_nat 30 v1 := zz_1of (by decide) a1 (show v1 ≤ nI 30 from a2) (zz_nat_nI (Nat.le_refl _) (by decide))
  have z2 : zz_nat 30 v2 := zz_1of (by decide) a3 a4 z1
  have z3 : zz_nat 30 v3 := zz_1of (by decide) a5 a6 z2
  have J := zz_mk (k := k + 5) (mT := mT) (mS := mS) (R := R) (mQ := mQ) (T := T) (N := N) (op := 1) (M := M) (K := K) (xtr := xtr) (xcp := xcp) (xlo := xlo) (xpe := upd xpe N v1) (xre := upd xre N v2) (xwc := upd xwc N v3) (xus := upd xus N v3) (xst := upd xst N 0) (xln := xln) (xdn := xdn) (xdu := xdu) (xnx := xnx) (xco := xco) (xmi := xmi) (xwo := xwo) (xbl := xbl) (xsc := upd xsc N 0) (xrs := xrs) (xun := xun) (xfr := xfr) (xto := xto) (xbu := xbu) (xsp := xsp) (xle := xle) (xsd := xsd) (xex := xex) (xql := xql) (xqu := xqu) (xqt := xqt) (xfa := xfa) (yf := upd (upd (upd (upd (upd (upd (upd yf (14 * N) (v1)) (14 * N + 1) (v2)) (14 * N + 2) (v3)) (14 * N + 3) (v3)) (14 * N + 4) (3)) (14 * N + 8) (-6)) (14 * N + 13) (0)) (ysec := ysec) (ysv := ysv) (yqu := yqu) (yqt := yqt) (ylg := ylg) (yfi := yfi) ⟨⟨b1, b2, b3, b4, b5, b6, b7, by omega, Or.inr rfl, fun _ => a7⟩, tf_draft (by omega) hF, rg_draft z2 z3 hG, hS, hV, hQ, hL, hN⟩
  exact (by first | exact J | exact ⟨rfl, J⟩ | exact ⟨trivial, J⟩)
end
section
/-! section -/
variable {mT mS R mQ T N M K : Nat} {op : Int32} {xtr xcp xlo xpe xre xwc xus xst xln xdn xdu xnx xco xmi xwo xbl xsc xrs xun xfr xto xbu xsp xle xsd xex xql xqu xqt xfa : Nat → Int32} {yf ysec ysv yqu yqt ylg yfi : Nat → Int32}
theorem yy_sec {post : Int32 → SY → Prop} {r v2 v3 v4 : Int32} {c : Nat} (hN6 : N < 6) (hc : c < 4) (hS : zz_SQ xrs xun xfr xto ysec) (h1 : (∃ s, s < c ∧ xrs (4 * N + s) = r ∧ ¬ xto (4 * N + s) ≤ v3 ∧ ¬ v4 ≤ xfr (4 * N + s)) → post (-1) (nI mT, nI mS, nI R, nI mQ, nI T, nI N, op, nI M, nI K, yf, ysec, ysv, yqu, yqt, xcp, xlo, ylg, yfi)) (h0 : (∀ s, s < c → ¬ (xrs (4 * N + s) = r ∧ ¬ xto (4 * N + s) ≤ v3 ∧ ¬ v4 ≤ xfr (4 * N + s))) → post (nI c) (nI mT, nI mS, nI R, nI mQ, nI T, nI N, op, nI M, nI K, upd yf (14 * N + 13) (nI (c + 1)), upd (upd (upd (upd ysec (16 * N + 4 * c) r) (16 * N + 4 * c + 1) v2) (16 * N + 4 * c + 2) v3) (16 * N + 4 * c + 3) v4, ysv, yqu, yqt, xcp, xlo, ylg, yfi)) : ∃ n : Nat, wY_section_101 post r v2 v3 v4 (nI c) (nI mT) (nI mS) (nI R) (nI mQ) (nI T) (nI N) op (nI M) (nI K) yf ysec ysv yqu yqt xcp xlo ylg yfi n 0 := by
  obtain ⟨s0, s1, s2, s3⟩ := hS
  refine ⟨_, zz_find (fun n i => wY_section_101 post r v2 v3 v4 (nI c) (nI mT) (nI mS) (nI R) (nI mQ) (nI T) (nI N) op (nI M) (nI K) yf ysec ysv yqu yqt xcp xlo ylg yfi n (nI i)) (fun s => xrs (4 * N + s) = r ∧ ¬ xto (4 * N + s) ≤ v3 ∧ ¬ v4 ≤ xfr (4 * N + s)) c (post (-1) (nI mT, nI mS, nI R, nI mQ, nI T, nI N, op, nI M, nI K, yf, ysec, ysv, yqu, yqt, xcp, xlo, ylg, yfi)) (post (nI c) (nI mT, nI mS, nI R, nI mQ, nI T, nI N, op, nI M, nI K, upd yf (14 * N + 13) (nI (c + 1)), upd (upd (upd (upd ysec (16 * N + 4 * c) r) (16 * N + 4 * c + 1) v2) (16 * N + 4 * c + 2) v3) (16 * N + 4 * c + 3) v4, ysv, yqu, yqt, xcp, xlo, ylg, yfi)) ?_ ?_ _ 0 _ (Nat.zero_add _) (Nat.lt_succ_self _) (fun ⟨j, _, h2, q⟩ => h1 ⟨j, h2, q⟩) (fun h => h0 (fun s hs => h s (Nat.zero_le _) hs))⟩
  · intro n hb
    rw [wY_section_101]
    simp (disch := omega) only [nI_0, nI_clamp, zz_in, zz_m4, zz_m6, zz_m14, zz_m16, nI_add, zz_p0, zz_p1, zz_p2, zz_p3, zz_p4, zz_p5, zz_p6, zz_p7, zz_p8, zz_p9, zz_p10, zz_p11, zz_p12, zz_p13, zz_a16, true_and, forall_eq]
    exact br_t (Int32.le_refl _) hb
  · intro n i hi ha hw
    rw [wY_section_101]
    refine br_f (nI_ge hi (by omega)) ?_
    simp (disch := omega) only [s0, s2, s3, nI_clamp, zz_in, zz_m4, zz_m6, zz_m14, zz_m16, nI_add, zz_p0, zz_p1, zz_p2, zz_p3, zz_p4, zz_p5, zz_p6, zz_p7, zz_p8, zz_p9, zz_p10, zz_p11, zz_p12, zz_p13, zz_a16, true_and, forall_eq]
    exact br_c (fun a1 => br_c (fun a2 => hw (fun z => z.2.1 a2)) (fun a2 => br_c (fun a3 => hw (fun z => z.2.2 a3)) (fun a3 => ha ⟨a1, a2, a3⟩))) (fun a1 => hw (fun z => a1 z.1))
theorem sq_new {v1 v2 v3 v4 : Int32} {c : Nat} (hc : c < 4) (h : zz_SQ xrs xun xfr xto ysec) : zz_SQ (upd xrs (4 * N + c) v1) (upd xun (4 * N + c) v2) (upd xfr (4 * N + c) v3) (upd xto (4 * N + c) v4) (upd (upd (upd (upd ysec (16 * N + 4 * c) v1) (16 * N + 4 * c + 1) v2) (16 * N + 4 * c + 2) v3) (16 * N + 4 * c + 3) v4) := by
  obtain ⟨s0, s1, s2, s3⟩ := h
  refine ⟨fun t s ht hs => ?_, fun t s ht hs => ?_, fun t s ht hs => ?_, fun t s ht hs => ?_⟩
  · by_cases e : 4 * t + s = 4 * N + c
    · rw [show 16 * t + 4 * s = 16 * N + 4 * c from by omega, e, pk_un (by omega), pk_un (by omega), pk_un (by omega), pk_us, pk_us]
    · rw [pk_un (by omega), pk_un (by omega), pk_un (by omega), pk_un (by omega), pk_un e]
      exact s0 t s ht hs
  · by_cases e : 4 * t + s = 4 * N + c
    · rw [show 16 * t + 4 * s + 1 = 16 * N + 4 * c + 1 from by omega, e, pk_un (by omega), pk_un (by omega), pk_us, pk_us]
    · rw [pk_un (by omega), pk_un (by omega), pk_un (by omega), pk_un (by omega), pk_un e]
      exact s1 t s ht hs
  · by_cases e : 4 * t + s = 4 * N + c
    · rw [show 16 * t + 4 * s + 2 = 16 * N + 4 * c + 2 from by omega, e, pk_un (by omega), pk_us, pk_us]
    · rw [pk_un (by omega), pk_un (by omega), pk_un (by omega), pk_un (by omega), pk_un e]
      exact s2 t s ht hs
  · by_cases e : 4 * t + s = 4 * N + c
    · rw [show 16 * t + 4 * s + 3 = 16 * N + 4 * c + 3 from by omega, e, pk_us, pk_us]
    · rw [pk_un (by omega), pk_un (by omega), pk_un (by omega), pk_un (by omega), pk_un e]
      exact s3 t s ht hs
theorem tf_sec {v : Int32} (h : zz_TF N op xpe xre xwc xus xst xln xdn xdu xnx xco xmi xwo xbl xsc yf) : zz_TF N op xpe xre xwc xus xst xln xdn xdu xnx xco xmi xwo xbl (upd xsc N v) (upd yf (14 * N + 13) v) :=
  ⟨zz_col_o (by decide) (by decide) (by decide) h.1, zz_col_o (by decide) (by decide) (by decide) h.2.1, zz_col_o (by decide) (by decide) (by decide) h.2.2.1, zz_col_o (by decide) (by decide) (by decide) h.2.2.2.1, zz_col_o (by decide) (by decide) (by decide) h.2.2.2.2.1, zz_col_o (by decide) (by decide) (by decide) h.2.2.2.2.2.1, zz_col_o (by decide) (by decide) (by decide) h.2.2.2.2.2.2.1, zz_col_o (by decide) (by decide) (by decide) h.2.2.2.2.2.2.2.1, zz_col_o (by decide) (by decide) (by decide) h.2.2.2.2.2.2.2.2.1, zz_col_o (by decide) (by decide) (by decide) h.2.2.2.2.2.2.2.2.2.1, zz_col_o (by decide) (by decide) (by decide) h.2.2.2.2.2.2.2.2.2.2.1, zz_col_o (by decide) (by decide) (by decide) h.2.2.2.2.2.2.2.2.2.2.2.1, zz_col_o (by decide) (by decide) (by decide) h.2.2.2.2.2.2.2.2.2.2.2.2.1, zz_col_s (by decide) h.2.2.2.2.2.2.2.2.2.2.2.2.2.1, fun z => ⟨(pk_un (by omega)).trans (tf_dr h z).1, (pk_un (by omega)).trans (tf_dr h z).2⟩, tf_ct h, tf_st h⟩
theorem rg_sec {v1 v2 v3 v4 : Int32} {c : Nat} (hc : c < 4) (ec : xsc N = nI c) (hN : N < 6) (h2 : ¬ v2 ≤ 0) (h3 : zz_nat 30 v3) (h4 : zz_nat 30 v4) (h : zz_RG xre xwc xsc xun xfr xto) : zz_RG xre xwc (upd xsc N (nI (c + 1))) (upd xun (4 * N + c) v2) (upd xfr (4 * N + c) v3) (upd xto (4 * N + c) v4) := by
  refine ⟨fun t ht => ?_, h.2.1, h.2.2.1, fun q hq => ?_, fun q hq => ?_, fun t ht s hs => ?_⟩
  · by_cases e : t = N
    · subst e; rw [pk_us]; exact zz_nat_nI (by omega) (by decide)
    · rw [pk_un e]; exact h.1 t ht
  · by_cases e : q = 4 * N + c
    · subst e; rw [pk_us]; exact h3
    · rw [pk_un e]; exact h.2.2.2.1 q hq
  · by_cases e : q = 4 * N + c
    · subst e; rw [pk_us]; exact h4
    · rw [pk_un e]; exact h.2.2.2.2.1 q hq
  · by_cases e : t = N
    · subst e
      rw [pk_us, zc_nI (by omega)] at hs
      by_cases e2 : s = c
      · subst e2; rw [pk_us]; exact h2
      · rw [pk_un (by omega)]
        exact h.2.2.2.2.2 t ht s (by rw [ec, zc_nI (by omega)]; omega)
    · rw [pk_un e] at hs
      have hs4 := (h.1 t ht).2
      rw [pk_un (by omega)]
      exact h.2.2.2.2.2 t ht s hs
theorem i_vc_section {k : Nat} {u : SX} {v : SY} (I : i_Rel k u v) (hk : k + 5 ≤ 2564) (v1 : Int32) (v2 : Int32) (v3 : Int32) (v4 : Int32) : wpX_section (fun r u' => wpY_section (fun r' v' => r' = r ∧ i_Rel (k + 5) u' v') v v1 v2 v3 v4) u v1 v2 v3 v4 := by
  refine zz_el (P := fun u v => wpX_section (fun r u' => wpY_section (fun r' v' => r' = r ∧ i_Rel (k + 5) u' v') v v1 v2 v3 v4) u v1 v2 v3 v4) ?_ I
  intro mT mS R mQ T N op M K xtr xcp xlo xpe xre xwc xus xst xln xdn xdu xnx xco xmi xwo xbl xsc xrs xun xfr xto xbu xsp xle xsd xex xql xqu xqt xfa yf ysec ysv yqu yqt ylg yfi hR
  have hR0 := zz_up hR
  have J := zz_mk hR0
  obtain ⟨⟨b1, b2, b3, b4, b5, b6, b7, b8, b9, b10⟩, hF, hG, hS, hV, hQ, hL, hN⟩ := hR
  by_cases o : op = 0
  · simp only [wpX_section, wpY_section]
    exact br_t o (br_t o (by first | exact J | exact ⟨rfl, J⟩ | exact ⟨trivial, J⟩))
  have hNm := b10 o
  have hN6 : N < 6 := by omega
  have hsc := hG.1 N hN6
  obtain ⟨c, hc, ec⟩ := zz_nat_ex hsc
  have ez : zc (xsc N) = c := by rw [ec]; exact zc_nI (by omega)
  have f2 := tf_2 hF
  have f13 := tf_13 hF
  simp only [wpX_section]
  refine br_f o (xx_isResource b3 (fun j hj e => ?_) (fun z => br_t (by trivial) ?_))
  case refine_2 =>
    simp only [wpY_section]
    exact br_f o (yr_bad z (by first | exact J | exact ⟨rfl, J⟩ | exact ⟨trivial, J⟩))
  subst e
  have n1 : ¬ nI j < 0 := nI_pos (by omega)
  have n2 : nI j < nI R := nI_lt hj (by omega)
  simp (disch := omega) only [wpY_section, f2, f13, ec, nI_clamp, zz_in, zz_m4, zz_m6, zz_m14, zz_m16, nI_add, zz_p0, zz_p1, zz_p2, zz_p3, zz_p4, zz_p5, zz_p6, zz_p7, zz_p8, zz_p9, zz_p10, zz_p11, zz_p12, zz_p13, zz_a16, true_and, forall_eq]
  refine br_f (by decide) ?_
  by_cases a1 : v2 < 1
  · exact br_t a1 (br_f o (br_f n1 (br_t n2 (br_t a1 (by first | exact J | exact ⟨rfl, J⟩ | exact ⟨trivial, J⟩)))))
  refine br_f a1 ?_
  by_cases a2 : v2 ≤ xcp j
  case neg => exact br_f a2 (br_f o (br_f n1 (br_t n2 (br_f a1 (br_f a2 (by first | exact J | exact ⟨rfl, J⟩ | exact ⟨trivial, J⟩))))))
  refine br_t a2 ?_
  by_cases a3 : v3 < 0
  · exact br_t a3 (br_f o (br_f n1 (br_t n2 (br_f a1 (br_t a2 (br_t a3 (by first | exact J | exact ⟨rfl, J⟩ | exact ⟨trivial, J⟩)))))))
  refine br_f a3 ?_
  by_cases a4 : v4 ≤ v3
  · exact br_t a4 (br_f o (br_f n1 (br_t n2 (br_f a1 (br_t a2 (br_f a3 (br_t a4 (by first | exact J | exact ⟨rfl, J⟩ | exact ⟨trivial, J⟩))))))))
  refine br_f a4 ?_
  by_cases a5 : v4 ≤ xwc N
  case neg => exact br_f a5 (br_f o (br_f n1 (br_t n2 (br_f a1 (br_t a2 (br_f a3 (br_f a4 (br_f a5 (by first | exact J | exact ⟨rfl, J⟩ | exact ⟨trivial, J⟩)))))))))
  refine br_t a5 ?_
  by_cases a6 : c < 4
  case neg =>
    have a6' : ¬ nI c < 4 := nI_nlt (b := 4) (by omega) (by omega)
    exact br_f a6' (br_f o (br_f n1 (br_t n2 (br_f a1 (br_t a2 (br_f a3 (br_f a4 (br_t a5 (br_f a6' (by first | exact J | exact ⟨rfl, J⟩ | exact ⟨trivial, J⟩))))))))))
  have a6' : nI c < 4 := nI_lt (b := 4) a6 (by decide)
  refine br_t a6' (xx_overlaps hN6 hsc (fun z => br_f (by decide) ?_) (fun z => br_t (by trivial) ?_))
  · rw [ez] at z
    exact br_f o (br_f n1 (br_t n2 (br_f a1 (br_t a2 (br_f a3 (br_f a4 (br_t a5 (br_t a6' (yy_sec hN6 a6 hS (fun _ => (by first | exact J | exact ⟨rfl, J⟩ | exact ⟨trivial, J⟩)) (fun y => by
      obtain ⟨s, hs, q⟩ := z
      exact absurd q (y s hs)))))))))))
  · rw [ez] at z
    have hz4 : zz_nat 30 v4 := by
      refine zz_1of (by decide) (fun y => a4 ?_) a5 (hG.2.2.1 N hN6)
      rw [Int32.lt_iff_toInt_lt, show (1 : Int32).toInt = 1 from by decide] at y
      rw [Int32.lt_iff_toInt_lt, show (0 : Int32).toInt = 0 from by decide] at a3
      rw [Int32.le_iff_toInt_le]
      omega
    have hz3 : zz_nat 30 v3 := by
      obtain ⟨w4, hw4, ew4⟩ := zz_nat_ex hz4
      refine zz_nat_of a3 (Int32.le_trans (Int32.le_of_lt (Int32.not_le.mp a4)) ?_) (by decide)
      rw [ew4]
      exact nI_le hw4 (by decide)
    have hv2 : ¬ v2 ≤ 0 := by
      intro y
      rw [Int32.lt_iff_toInt_lt, show (1 : Int32).toInt = 1 from by decide] at a1
      rw [Int32.le_iff_toInt_le, show (0 : Int32).toInt = 0 from by decide] at y
      omega
    have hin : vp_in (nI (4 * N + c)) 24 := vp_in_nI (by omega) (by decide)
    refine ⟨hin, hin, hin, hin, br_f o (br_f n1 (br_t n2 (br_f a1 (br_t a2 (br_f a3 (br_f a4 (br_t a5 (br_t a6' (yy_sec hN6 a6 hS (fun y => ?_) (fun _ => ?_))))))))))⟩
    · obtain ⟨s, hs, q⟩ := y
      exact absurd q (z s hs)
    · have J := zz_mk (k := k + 5) (mT := mT) (mS := mS) (R := R) (mQ := mQ) (T := T) (N := N) (op := op) (M := M) (K := K) (xtr := xtr) (xcp := xcp) (xlo := xlo) (xpe := xpe) (xre := xre) (xwc := xwc) (xus := xus) (xst := xst) (xln := xln) (xdn := xdn) (xdu := xdu) (xnx := xnx) (xco := xco) (xmi := xmi) (xwo := xwo) (xbl := xbl) (xsc := upd xsc N (nI (c + 1))) (xrs := upd xrs (4 * N + c) (nI j)) (xun := upd xun (4 * N + c) v2) (xfr := upd xfr (4 * N + c) v3) (xto := upd xto (4 * N + c) v4) (xbu := xbu) (xsp := xsp) (xle := xle) (xsd := xsd) (xex := xex) (xql := xql) (xqu := xqu) (xqt := xqt) (xfa := xfa) (yf := upd yf (14 * N + 13) (nI (c + 1))) (ysec := upd (upd (upd (upd ysec (16 * N + 4 * c) (nI j)) (16 * N + 4 * c + 1) v2) (16 * N + 4 * c + 2) v3) (16 * N + 4 * c + 3) v4) (ysv := ysv) (yqu := yqu) (yqt := yqt) (ylg := ylg) (yfi := yfi) ⟨⟨b1, b2, b3, b4, b5, b6, b7, by omega, b9, b10⟩, tf_sec hF, rg_sec (v1 := nI j) a6 ec hN6 hv2 hz3 hz4 hG, sq_new a6 hS, hV, hQ, hL, hN⟩
      exact (by first | exact J | exact ⟨rfl, J⟩ | exact ⟨trivial, J⟩)
end
section
/-! the call that takes a draft among the tasks -/
variable {mT mS R mQ T N M K : Nat} {op : Int32} {xtr xcp xlo xpe xre xwc xus xst xln xdn xdu xnx xco xmi xwo xbl xsc xrs xun xfr xto xbu xsp xle xsd xex xql xqu xqt xfa : Nat → Int32} {yf ysec ysv yqu yqt ylg yfi : Nat → Int32}
theorem yy_admit24 {post : Int32 → SY → Prop} {p : Int32} (hN : N ≤ 6) (hsc : ∀ t, t < 6 → zz_nat 4 (xsc t)) (hF : zz_FQ N xre xwc xst xdn xsc yf) (hS : zz_SQ xrs xun xfr xto ysec) (h1 : (∃ t, t < N ∧ ∃ s, s < zc (xsc t) ∧ zz_H xst xdn xfr xto t (4 * t + s)) → post (-4) (nI mT, nI mS, nI R, nI mQ, nI T, nI N, op, nI M, nI K, yf, ysec, ysv, yqu, yqt, xcp, xlo, ylg, yfi)) (h0 : (∀ t, t < N → ¬ ∃ s, s < zc (xsc t) ∧ zz_H xst xdn xfr xto t (4 * t + s)) → ∀ n, wY_admit_24 post p (nI mT) (nI mS) (nI R) (nI mQ) (nI T) (nI N) op (nI M) (nI K) yf ysec ysv yqu yqt xcp xlo ylg yfi (n + 1) (nI N)) : ∃ n : Nat, wY_admit_24 post p (nI mT) (nI mS) (nI R) (nI mQ) (nI T) (nI N) op (nI M) (nI K) yf ysec ysv yqu yqt xcp xlo ylg yfi n 0 := by
  have f13 := hF.2.2.2.2
  refine ⟨_, zz_find (fun n i => wY_admit_24 post p (nI mT) (nI mS) (nI R) (nI mQ) (nI T) (nI N) op (nI M) (nI K) yf ysec ysv yqu yqt xcp xlo ylg yfi n (nI i)) (fun t => ∃ s, s < zc (xsc t) ∧ zz_H xst xdn xfr xto t (4 * t + s)) N (post (-4) (nI mT, nI mS, nI R, nI mQ, nI T, nI N, op, nI M, nI K, yf, ysec, ysv, yqu, yqt, xcp, xlo, ylg, yfi)) (∀ n, wY_admit_24 post p (nI mT) (nI mS) (nI R) (nI mQ) (nI T) (nI N) op (nI M) (nI K) yf ysec ysv yqu yqt xcp xlo ylg yfi (n + 1) (nI N)) ?_ ?_ _ 0 _ (Nat.zero_add _) (Nat.lt_succ_self _) (fun ⟨j, _, h2, q⟩ => h1 ⟨j, h2, q⟩) (fun h => h0 (fun s hs => h s (Nat.zero_le _) hs))⟩
  · intro n hb
    exact hb n
  · intro n t ht ha hw
    have ht6 : t < 6 := by omega
    rw [wY_admit_24]
    refine br_f (nI_ge ht (by omega)) ⟨_, zz_find (fun m i => wY_admit_34 post (wY_admit_24 post p (nI mT) (nI mS) (nI R) (nI mQ) (nI T) (nI N) op (nI M) (nI K) yf ysec ysv yqu yqt xcp xlo ylg yfi n) p (nI t) (nI mT) (nI mS) (nI R) (nI mQ) (nI T) (nI N) op (nI M) (nI K) yf ysec ysv yqu yqt xcp xlo ylg yfi m (nI i)) (fun s => zz_H xst xdn xfr xto t (4 * t + s)) (zc (xsc t)) (post (-4) (nI mT, nI mS, nI R, nI mQ, nI T, nI N, op, nI M, nI K, yf, ysec, ysv, yqu, yqt, xcp, xlo, ylg, yfi)) (wY_admit_24 post p (nI mT) (nI mS) (nI R) (nI mQ) (nI T) (nI N) op (nI M) (nI K) yf ysec ysv yqu yqt xcp xlo ylg yfi n (nI (t + 1))) ?_ ?_ _ 0 _ (Nat.zero_add _) (Nat.lt_succ_self _) (fun ⟨j, _, h2, q⟩ => ha ⟨j, h2, q⟩) (fun h => hw (fun ⟨s, hs, q⟩ => h s (Nat.zero_le _) hs q))⟩
    · intro m hb
      rw [wY_admit_34]
      simp (disch := omega) only [f13, nI_clamp, zz_in, zz_m4, zz_m6, zz_m14, zz_m16, nI_add, zz_p0, zz_p1, zz_p2, zz_p3, zz_p4, zz_p5, zz_p6, zz_p7, zz_p8, zz_p9, zz_p10, zz_p11, zz_p12, zz_p13, zz_a16, true_and, forall_eq]
      exact br_t (zz_nat_ge (hsc t ht6)) hb
    · intro m i hi ha2 hw2
      have hi4 : i < 4 := Nat.lt_of_lt_of_le hi (hsc t ht6).2
      rw [wY_admit_34]
      simp (disch := omega) only [f13, nI_clamp, zz_in, zz_m4, zz_m6, zz_m14, zz_m16, nI_add, zz_p0, zz_p1, zz_p2, zz_p3, zz_p4, zz_p5, zz_p6, zz_p7, zz_p8, zz_p9, zz_p10, zz_p11, zz_p12, zz_p13, zz_a16, true_and, forall_eq]
      exact br_f (zz_nat_lt (hsc t ht6) (by decide) hi) (yy_held ht hi4 hN hF hS (fun z => br_f (by decide) (ha2 z)) (fun z => br_t (by trivial) (hw2 z)))
theorem zz_col_z {w n x t0 : Nat} {f g : Nat → Int32} {v : Int32} (e : g t0 = v) (h : zz_col w n f x g) : zz_col w n f x (upd g t0 v) := by
  intro t ht
  by_cases q : t = t0
  · subst q
    rw [pk_us, h t ht, e]
  · rw [pk_un q]
    exact h t ht
theorem zz_col_n {w n x : Nat} {f g : Nat → Int32} {v : Int32} (hw : 0 < w) (h : zz_col w n f x g) : zz_col w (n + 1) (upd f (w * n + x) v) x (upd g n v) := by
  intro t ht
  by_cases e : t = n
  · subst e
    rw [pk_us, pk_us]
  · have e2 : w * t + x ≠ w * n + x := fun z => e (Nat.eq_of_mul_eq_mul_left hw (Nat.add_right_cancel z))
    rw [pk_un e2, pk_un e]
    exact h t (by omega)
theorem tf_admit {v : Int32} (hN : N < 6) (h : zz_TF N op xpe xre xwc xus xst xln xdn xdu xnx xco xmi xwo xbl xsc yf) : zz_TF (N + 1) 0 xpe xre xwc xus (upd xst N 0) xln xdn xdu (upd xnx N v) (upd xco N 0) (upd xmi N 0) (upd xwo N 0) (upd xbl N 0) xsc (upd (upd yf (14 * N + 4) 0) (14 * N + 8) v) := by
  have hct := tf_ct h N (Nat.le_refl _) hN
  refine ⟨zz_col_o (by decide) (by decide) (by decide) (zz_col_o (by decide) (by decide) (by decide) h.1), zz_col_o (by decide) (by decide) (by decide) (zz_col_o (by decide) (by decide) (by decide) h.2.1), zz_col_o (by decide) (by decide) (by decide) (zz_col_o (by decide) (by decide) (by decide) h.2.2.1), zz_col_o (by decide) (by decide) (by decide) (zz_col_o (by decide) (by decide) (by decide) h.2.2.2.1), zz_col_o (by decide) (by decide) (by decide) (zz_col_n (by decide) h.2.2.2.2.1), zz_col_o (by decide) (by decide) (by decide) (zz_col_o (by decide) (by decide) (by decide) h.2.2.2.2.2.1), zz_col_o (by decide) (by decide) (by decide) (zz_col_o (by decide) (by decide) (by decide) h.2.2.2.2.2.2.1), zz_col_o (by decide) (by decide) (by decide) (zz_col_o (by decide) (by decide) (by decide) h.2.2.2.2.2.2.2.1), zz_col_n (by decide) (zz_col_o (by decide) (by decide) (by decide) h.2.2.2.2.2.2.2.2.1), zz_col_z hct.1 (zz_col_o (by decide) (by decide) (by decide) (zz_col_o (by decide) (by decide) (by decide) h.2.2.2.2.2.2.2.2.2.1)), zz_col_z hct.2.1 (zz_col_o (by decide) (by decide) (by decide) (zz_col_o (by decide) (by decide) (by decide) h.2.2.2.2.2.2.2.2.2.2.1)), zz_col_z hct.2.2.1 (zz_col_o (by decide) (by decide) (by decide) (zz_col_o (by decide) (by decide) (by decide) h.2.2.2.2.2.2.2.2.2.2.2.1)), zz_col_z hct.2.2.2 (zz_col_o (by decide) (by decide) (by decide) (zz_col_o (by decide) (by decide) (by decide) h.2.2.2.2.2.2.2.2.2.2.2.2.1)), zz_col_o (by decide) (by decide) (by decide) (zz_col_o (by decide) (by decide) (by decide) h.2.2.2.2.2.2.2.2.2.2.2.2.2.1), fun z => absurd rfl z, fun t h1 h2 => ?_, fun t ht => ?_⟩
  · rw [pk_un (by omega), pk_un (by omega), pk_un (by omega), pk_un (by omega)]
    exact tf_ct h t (by omega) h2
  · by_cases e : t = N
    · subst e
      rw [pk_us]
      exact Or.inl rfl
    · rw [pk_un e]
      exact tf_st h t (by omega)
theorem i_vc_admit {k : Nat} {u : SX} {v : SY} (I : i_Rel k u v) (hk : k + 5 ≤ 2564) (v1 : Int32) : wpX_admit (fun r u' => wpY_admit (fun r' v' => r' = r ∧ i_Rel (k + 5) u' v') v v1) u v1 := by
  refine zz_el (P := fun u v => wpX_admit (fun r u' => wpY_admit (fun r' v' => r' = r ∧ i_Rel (k + 5) u' v') v v1) u v1) ?_ I
  intro mT mS R mQ T N op M K xtr xcp xlo xpe xre xwc xus xst xln xdn xdu xnx xco xmi xwo xbl xsc xrs xun xfr xto xbu xsp xle xsd xex xql xqu xqt xfa yf ysec ysv yqu yqt ylg yfi hR
  have hR0 := zz_up hR
  have J := zz_mk hR0
  obtain ⟨⟨b1, b2, b3, b4, b5, b6, b7, b8, b9, b10⟩, hF, hG, hS, hV, hQ, hL, hN⟩ := hR
  by_cases o : op = 0
  · simp only [wpX_admit, wpY_admit]
    exact br_t o (br_t o (by first | exact J | exact ⟨rfl, J⟩ | exact ⟨trivial, J⟩))
  have hNm := b10 o
  have hN6 : N < 6 := by omega
  have hFQ := tf_fq hF
  by_cases a1 : v1 < 0
  · simp only [wpX_admit, wpY_admit]
    exact br_f o (br_t a1 (br_f o (br_t a1 (by first | exact J | exact ⟨rfl, J⟩ | exact ⟨trivial, J⟩))))
  by_cases a2 : v1 ≤ 30
  case neg =>
    simp only [wpX_admit, wpY_admit]
    exact br_f o (br_f a1 (br_f a2 (br_f o (br_f a1 (br_f a2 (by first | exact J | exact ⟨rfl, J⟩ | exact ⟨trivial, J⟩))))))
  have hL' := zz_hL (rs := xrs) (c := N + 1) (by omega) hG.1 hG.2.1 hG.2.2.2.1 hG.2.2.2.2.1 hG.2.2.2.2.2
  simp (disch := omega) only [wpX_admit, nI_clamp, zz_in, zz_m4, zz_m6, zz_m14, zz_m16, nI_add, zz_p0, zz_p1, zz_p2, zz_p3, zz_p4, zz_p5, zz_p6, zz_p7, zz_p8, zz_p9, zz_p10, zz_p11, zz_p12, zz_p13, zz_a16, true_and, forall_eq]
  refine br_f o (br_f a1 (br_t a2 (xx_anyHeld (by omega) hG.1 (fun z => br_f (by decide) ?_) (fun z => br_t (by trivial) (xx_weight (by omega) (xx_cond (by omega) hG.1 (fun p1 p2 => br_f (by decide) ?_) (fun p => br_t (by trivial) ?_)))))))
  · simp only [wpY_admit]
    refine br_f o (br_f a1 (br_t a2 (yy_admit24 (by omega) hG.1 hFQ hS (fun _ => (by first | exact J | exact ⟨rfl, J⟩ | exact ⟨trivial, J⟩)) (fun y => ?_))))
    obtain ⟨t, ht, q⟩ := z
    exact absurd q (y t ht)
  · have hF1 := tf_admit (v := nI T + v1) hN6 hF
    have hY : ∀ post : Int32 → SY → Prop, (v1 = 0 → post (nI N) (nI mT, nI mS, nI R, nI mQ, nI T, nI (N + 1), 0, nI M, nI K, upd (upd (upd (upd (upd (upd (upd yf (14 * N + 4) 0) (14 * N + 8) (nI T + v1)) (14 * N + 4) 1) (14 * N + 5) (xus N)) (14 * N + 6) 0) (14 * N + 7) (nI T + xre N)) (14 * N + 8) (nI T + xpe N), ysec, ysv, yqu, yqt, xcp, xlo, ylg, yfi)) → (¬ v1 = 0 → post (nI N) (nI mT, nI mS, nI R, nI mQ, nI T, nI (N + 1), 0, nI M, nI K, upd (upd yf (14 * N + 4) 0) (14 * N + 8) (nI T + v1), ysec, ysv, yqu, yqt, xcp, xlo, ylg, yfi)) → wpY_admit post (nI mT, nI mS, nI R, nI mQ, nI T, nI N, op, nI M, nI K, yf, ysec, ysv, yqu, yqt, xcp, xlo, ylg, yfi) v1 := by
      intro post g0 g1
      simp only [wpY_admit]
      refine br_f o (br_f a1 (br_t a2 (yy_admit24 (by omega) hG.1 hFQ hS (fun y => ?_) (fun _ n => ?_))))
      · obtain ⟨t, ht, q⟩ := y
        exact absurd q (z t ht)
      · rw [wY_admit_24]
        simp (disch := omega) only [nI_pred, nI_clamp, zz_in, zz_m4, zz_m6, zz_m14, zz_m16, nI_add, zz_p0, zz_p1, zz_p2, zz_p3, zz_p4, zz_p5, zz_p6, zz_p7, zz_p8, zz_p9, zz_p10, zz_p11, zz_p12, zz_p13, zz_a16, true_and, forall_eq]
        refine br_t (Int32.le_refl _) (yy_weight (by omega) (rv_0 hV) (rv_1 hV) (yy_cond (by omega) hG.1 hFQ hS hL' (fun _ _ => br_f (by decide) (br_c (fun q => ?_) (fun q => g1 q))) (fun y => ?_)))
        · refine yy_release hN6 hF1 ?_
          show post (nI (N + 1) - 1) (nI mT, nI mS, nI R, nI mQ, nI T, nI (N + 1), 0, nI M, nI K, upd (upd (upd (upd (upd (upd (upd yf (14 * N + 4) 0) (14 * N + 8) (nI T + v1)) (14 * N + 4) 1) (14 * N + 5) (xus N)) (14 * N + 6) 0) (14 * N + 7) (nI T + xre N)) (14 * N + 8) (nI T + xpe N), ysec, ysv, yqu, yqt, xcp, xlo, ylg, yfi)
          rw [nI_pred]
          exact g0 q
        · rcases y with y | ⟨t, ht, y⟩
          · exact absurd p1 y
          · exact absurd (p2 t ht) y
    by_cases q : v1 = 0
    · refine br_t q (xx_release hN6 (hY _ (fun _ => ?_) (fun nq => absurd q nq)))
      have J := zz_mk (k := k + 5) (mT := mT) (mS := mS) (R := R) (mQ := mQ) (T := T) (N := N + 1) (op := 0) (M := M) (K := K) (xtr := xtr) (xcp := xcp) (xlo := xlo) (xpe := xpe) (xre := xre) (xwc := xwc) (xus := xus) (xst := upd (upd xst N 0) N 1) (xln := upd xln N (xus N)) (xdn := upd xdn N 0) (xdu := upd xdu N (nI T + xre N)) (xnx := upd (upd xnx N (nI T + v1)) N (nI T + xpe N)) (xco := upd xco N 0) (xmi := upd xmi N 0) (xwo := upd xwo N 0) (xbl := upd xbl N 0) (xsc := xsc) (xrs := xrs) (xun := xun) (xfr := xfr) (xto := xto) (xbu := xbu) (xsp := xsp) (xle := xle) (xsd := xsd) (xex := xex) (xql := xql) (xqu := xqu) (xqt := xqt) (xfa := xfa) (yf := upd (upd (upd (upd (upd (upd (upd yf (14 * N + 4) 0) (14 * N + 8) (nI T + v1)) (14 * N + 4) 1) (14 * N + 5) (xus N)) (14 * N + 6) 0) (14 * N + 7) (nI T + xre N)) (14 * N + 8) (nI T + xpe N)) (ysec := ysec) (ysv := ysv) (yqu := yqu) (yqt := yqt) (ylg := ylg) (yfi := yfi) ⟨⟨b1, b2, b3, b4, b5, by omega, b7, by omega, Or.inl rfl, fun z => absurd rfl z⟩, tf_rel (Nat.lt_succ_self N) hF1, hG, hS, hV, hQ, hL, hN⟩
      exact (by first | exact J | exact ⟨rfl, J⟩ | exact ⟨trivial, J⟩)
    · refine br_f q (hY _ (fun y => absurd y q) (fun _ => ?_))
      have J := zz_mk (k := k + 5) (mT := mT) (mS := mS) (R := R) (mQ := mQ) (T := T) (N := N + 1) (op := 0) (M := M) (K := K) (xtr := xtr) (xcp := xcp) (xlo := xlo) (xpe := xpe) (xre := xre) (xwc := xwc) (xus := xus) (xst := upd xst N 0) (xln := xln) (xdn := xdn) (xdu := xdu) (xnx := upd xnx N (nI T + v1)) (xco := upd xco N 0) (xmi := upd xmi N 0) (xwo := upd xwo N 0) (xbl := upd xbl N 0) (xsc := xsc) (xrs := xrs) (xun := xun) (xfr := xfr) (xto := xto) (xbu := xbu) (xsp := xsp) (xle := xle) (xsd := xsd) (xex := xex) (xql := xql) (xqu := xqu) (xqt := xqt) (xfa := xfa) (yf := upd (upd yf (14 * N + 4) 0) (14 * N + 8) (nI T + v1)) (ysec := ysec) (ysv := ysv) (yqu := yqu) (yqt := yqt) (ylg := ylg) (yfi := yfi) ⟨⟨b1, b2, b3, b4, b5, by omega, b7, by omega, Or.inl rfl, fun z => absurd rfl z⟩, hF1, hG, hS, hV, hQ, hL, hN⟩
      exact (by first | exact J | exact ⟨rfl, J⟩ | exact ⟨trivial, J⟩)
  · simp only [wpY_admit]
    refine br_f o (br_f a1 (br_t a2 (yy_admit24 (by omega) hG.1 hFQ hS (fun y => ?_) (fun _ n => ?_))))
    · obtain ⟨t, ht, q⟩ := y
      exact absurd q (z t ht)
    · rw [wY_admit_24]
      simp (disch := omega) only [nI_pred, nI_clamp, zz_in, zz_m4, zz_m6, zz_m14, zz_m16, nI_add, zz_p0, zz_p1, zz_p2, zz_p3, zz_p4, zz_p5, zz_p6, zz_p7, zz_p8, zz_p9, zz_p10, zz_p11, zz_p12, zz_p13, zz_a16, true_and, forall_eq]
      refine br_t (Int32.le_refl _) (yy_weight (by omega) (rv_0 hV) (rv_1 hV) (yy_cond (by omega) hG.1 hFQ hS hL' (fun y1 y2 => ?_) (fun _ => br_t (by trivial) (by first | exact J | exact ⟨rfl, J⟩ | exact ⟨trivial, J⟩))))
      rcases p with p | ⟨t, ht, p⟩
      · exact absurd y1 p
      · exact absurd (y2 t ht) p
end
section
/-! openServer, request -/
variable {mT mS R mQ T N M K : Nat} {op : Int32} {xtr xcp xlo xpe xre xwc xus xst xln xdn xdu xnx xco xmi xwo xbl xsc xrs xun xfr xto xbu xsp xle xsd xex xql xqu xqt xfa : Nat → Int32} {yf ysec ysv yqu yqt ylg yfi : Nat → Int32}
theorem rv_open {b p t : Int32} (hM : M < 3) (h : zz_RV M xbu xsp xle xsd xql xex ysv) : zz_RV (M + 1) (upd xbu M b) (upd xsp M p) (upd xle M b) (upd xsd M t) (upd xql M 0) (upd xex M 0) (upd (upd (upd (upd ysv (6 * M) b) (6 * M + 1) p) (6 * M + 2) b) (6 * M + 3) t) := by
  have hz := rv_z h M (Nat.le_refl _) hM
  have c0 : zz_col 6 3 (upd (upd (upd (upd ysv (6 * M + 0) b) (6 * M + 1) p) (6 * M + 2) b) (6 * M + 3) t) 0 (upd xbu M b) := zz_col_o (by decide) (by decide) (by decide) (zz_col_o (by decide) (by decide) (by decide) (zz_col_o (by decide) (by decide) (by decide) (zz_col_s (by decide) (h.1))))
  have c1 : zz_col 6 3 (upd (upd (upd (upd ysv (6 * M + 0) b) (6 * M + 1) p) (6 * M + 2) b) (6 * M + 3) t) 1 (upd xsp M p) := zz_col_o (by decide) (by decide) (by decide) (zz_col_o (by decide) (by decide) (by decide) (zz_col_s (by decide) (zz_col_o (by decide) (by decide) (by decide) (h.2.1))))
  have c2 : zz_col 6 3 (upd (upd (upd (upd ysv (6 * M + 0) b) (6 * M + 1) p) (6 * M + 2) b) (6 * M + 3) t) 2 (upd xle M b) := zz_col_o (by decide) (by decide) (by decide) (zz_col_s (by decide) (zz_col_o (by decide) (by decide) (by decide) (zz_col_o (by decide) (by decide) (by decide) (h.2.2.1))))
  have c3 : zz_col 6 3 (upd (upd (upd (upd ysv (6 * M + 0) b) (6 * M + 1) p) (6 * M + 2) b) (6 * M + 3) t) 3 (upd xsd M t) := zz_col_s (by decide) (zz_col_o (by decide) (by decide) (by decide) (zz_col_o (by decide) (by decide) (by decide) (zz_col_o (by decide) (by decide) (by decide) (h.2.2.2.1))))
  have c4 : zz_col 6 3 (upd (upd (upd (upd ysv (6 * M + 0) b) (6 * M + 1) p) (6 * M + 2) b) (6 * M + 3) t) 4 (upd xql M 0) := zz_col_o (by decide) (by decide) (by decide) (zz_col_o (by decide) (by decide) (by decide) (zz_col_o (by decide) (by decide) (by decide) (zz_col_o (by decide) (by decide) (by decide) (zz_col_z hz.1 h.2.2.2.2.1))))
  have c5 : zz_col 6 3 (upd (upd (upd (upd ysv (6 * M + 0) b) (6 * M + 1) p) (6 * M + 2) b) (6 * M + 3) t) 5 (upd xex M 0) := zz_col_o (by decide) (by decide) (by decide) (zz_col_o (by decide) (by decide) (by decide) (zz_col_o (by decide) (by decide) (by decide) (zz_col_o (by decide) (by decide) (by decide) (zz_col_z hz.2 h.2.2.2.2.2.1))))
  refine ⟨c0, c1, c2, c3, c4, c5, fun s h1 h2 => ?_⟩
  rw [pk_un (by omega), pk_un (by omega)]
  exact rv_z h s (by omega) h2
theorem rq_open (h : zz_RQ mQ K xql xqu xqt yqu yqt) (hm : mQ < 2 ^ 31) : zz_RQ mQ K (upd xql M 0) xqu xqt yqu yqt := by
  intro s hs
  by_cases e : s = M
  · subst e
    rw [pk_us]
    refine ⟨zz_nat_0 mQ hm, fun p hp => ?_⟩
    rw [show zc (0 : Int32) = 0 from by decide] at hp
    omega
  · rw [pk_un e]
    exact h s hs
theorem i_vc_openServer {k : Nat} {u : SX} {v : SY} (I : i_Rel k u v) (hk : k + 5 ≤ 2564) (v1 : Int32) (v2 : Int32) : wpX_openServer (fun r u' => wpY_openServer (fun r' v' => r' = r ∧ i_Rel (k + 5) u' v') v v1 v2) u v1 v2 := by
  refine zz_el (P := fun u v => wpX_openServer (fun r u' => wpY_openServer (fun r' v' => r' = r ∧ i_Rel (k + 5) u' v') v v1 v2) u v1 v2) ?_ I
  intro mT mS R mQ T N op M K xtr xcp xlo xpe xre xwc xus xst xln xdn xdu xnx xco xmi xwo xbl xsc xrs xun xfr xto xbu xsp xle xsd xex xql xqu xqt xfa yf ysec ysv yqu yqt ylg yfi hR
  have hR0 := zz_up hR
  have J := zz_mk hR0
  obtain ⟨⟨b1, b2, b3, b4, b5, b6, b7, b8, b9, b10⟩, hF, hG, hS, hV, hQ, hL, hN⟩ := hR
  by_cases a1 : v2 < 1
  · simp only [wpX_openServer, wpY_openServer]
    exact br_t a1 (br_t a1 (by first | exact J | exact ⟨rfl, J⟩ | exact ⟨trivial, J⟩))
  by_cases a2 : v2 ≤ 30
  case neg =>
    simp only [wpX_openServer, wpY_openServer]
    exact br_f a1 (br_f a2 (br_f a1 (br_t (Int32.not_le.mp a2) (by first | exact J | exact ⟨rfl, J⟩ | exact ⟨trivial, J⟩))))
  have a2' : ¬ 30 < v2 := Int32.not_lt.mpr a2
  by_cases a3 : v1 < 1
  · simp only [wpX_openServer, wpY_openServer]
    exact br_f a1 (br_t a2 (br_t a3 (br_f a1 (br_f a2' (br_t a3 (by first | exact J | exact ⟨rfl, J⟩ | exact ⟨trivial, J⟩))))))
  by_cases a4 : v1 ≤ v2
  case neg =>
    simp only [wpX_openServer, wpY_openServer]
    exact br_f a1 (br_t a2 (br_f a3 (br_f a4 (br_f a1 (br_f a2' (br_f a3 (br_f a4 (by first | exact J | exact ⟨rfl, J⟩ | exact ⟨trivial, J⟩))))))))
  by_cases a5 : M < mS
  case neg =>
    have a5' : ¬ nI M < nI mS := nI_nlt (by omega) (by omega)
    simp only [wpX_openServer, wpY_openServer]
    exact br_f a1 (br_t a2 (br_f a3 (br_t a4 (br_f a5' (br_f a1 (br_f a2' (br_f a3 (br_t a4 (br_f a5' (by first | exact J | exact ⟨rfl, J⟩ | exact ⟨trivial, J⟩))))))))))
  have a5' : nI M < nI mS := nI_lt a5 (by omega)
  have hFQ := tf_fq hF
  have hL' := zz_hL (rs := xrs) (c := N) (by omega) hG.1 hG.2.1 hG.2.2.2.1 hG.2.2.2.2.1 hG.2.2.2.2.2
  simp (disch := omega) only [wpX_openServer, nI_clamp, zz_in, zz_m4, zz_m6, zz_m14, zz_m16, nI_add, zz_p0, zz_p1, zz_p2, zz_p3, zz_p4, zz_p5, zz_p6, zz_p7, zz_p8, zz_p9, zz_p10, zz_p11, zz_p12, zz_p13, zz_a16, true_and, forall_eq]
  refine br_f a1 (br_t a2 (br_f a3 (br_t a4 (br_t a5' (xx_weight (by omega) (xx_share (xx_cond (by omega) hG.1 (fun p1 p2 => br_f (by decide) ?_) (fun p => br_t (by trivial) ?_))))))))
  · simp (disch := omega) only [wpY_openServer, nI_pred, nI_clamp, zz_in, zz_m4, zz_m6, zz_m14, zz_m16, nI_add, zz_p0, zz_p1, zz_p2, zz_p3, zz_p4, zz_p5, zz_p6, zz_p7, zz_p8, zz_p9, zz_p10, zz_p11, zz_p12, zz_p13, zz_a16, true_and, forall_eq]
    refine br_f a1 (br_f a2' (br_f a3 (br_t a4 (br_t a5' (yy_weight (by omega) (rv_0 hV) (rv_1 hV) (yy_share (yy_cond (w := zz_wt xbu xsp M + zz_shr v1 v2) (by omega) hG.1 hFQ hS hL' (fun _ _ => br_f (by decide) ?_) (fun y => ?_))))))))
    · have J := zz_mk (k := k + 5) (mT := mT) (mS := mS) (R := R) (mQ := mQ) (T := T) (N := N) (op := op) (M := M + 1) (K := K) (xtr := xtr) (xcp := xcp) (xlo := xlo) (xpe := xpe) (xre := xre) (xwc := xwc) (xus := xus) (xst := xst) (xln := xln) (xdn := xdn) (xdu := xdu) (xnx := xnx) (xco := xco) (xmi := xmi) (xwo := xwo) (xbl := xbl) (xsc := xsc) (xrs := xrs) (xun := xun) (xfr := xfr) (xto := xto) (xbu := upd xbu M v1) (xsp := upd xsp M v2) (xle := upd xle M v1) (xsd := upd xsd M (nI T)) (xex := upd xex M 0) (xql := upd xql M 0) (xqu := xqu) (xqt := xqt) (xfa := xfa) (yf := yf) (ysec := ysec) (ysv := upd (upd (upd (upd ysv (6 * M) v1) (6 * M + 1) v2) (6 * M + 2) v1) (6 * M + 3) (nI T)) (yqu := yqu) (yqt := yqt) (ylg := ylg) (yfi := yfi) ⟨⟨b1, b2, b3, b4, b5, b6, by omega, by omega, b9, b10⟩, hF, hG, hS, rv_open (by omega) hV, rq_open hQ (by omega), hL, hN⟩
      exact (by first | exact J | exact ⟨rfl, J⟩ | exact ⟨trivial, J⟩)
    · rcases y with y | ⟨t, ht, y⟩
      · exact absurd p1 y
      · exact absurd (p2 t ht) y
  · simp (disch := omega) only [wpY_openServer, nI_pred, nI_clamp, zz_in, zz_m4, zz_m6, zz_m14, zz_m16, nI_add, zz_p0, zz_p1, zz_p2, zz_p3, zz_p4, zz_p5, zz_p6, zz_p7, zz_p8, zz_p9, zz_p10, zz_p11, zz_p12, zz_p13, zz_a16, true_and, forall_eq]
    refine br_f a1 (br_f a2' (br_f a3 (br_t a4 (br_t a5' (yy_weight (by omega) (rv_0 hV) (rv_1 hV) (yy_share (yy_cond (w := zz_wt xbu xsp M + zz_shr v1 v2) (by omega) hG.1 hFQ hS hL' (fun y1 y2 => ?_) (fun _ => br_t (by trivial) (by first | exact J | exact ⟨rfl, J⟩ | exact ⟨trivial, J⟩)))))))))
    rcases p with p | ⟨t, ht, p⟩
    · exact absurd y1 p
    · exact absurd (y2 t ht) p
theorem rq_new {s c : Nat} {v : Int32} (hs : s < 3) (hc : c < mQ) (hm : mQ ≤ 6) (ec : xql s = nI c) (h : zz_RQ mQ K xql xqu xqt yqu yqt) : zz_RQ mQ (K + 1) (upd xql s (nI (c + 1))) (upd xqu (6 * s + c) v) (upd xqt (6 * s + c) (nI K)) (upd yqu (6 * s + c) v) (upd yqt (6 * s + c) (nI K)) := by
  intro s' hs'
  obtain ⟨h1, h2⟩ := h s' hs'
  by_cases e : s' = s
  · subst e
    rw [pk_us, zc_nI (by omega)]
    rw [ec, zc_nI (by omega)] at h2
    refine ⟨zz_nat_nI (by omega) (by omega), fun p hp => ?_⟩
    by_cases q : p = c
    · subst q
      rw [pk_us, pk_us, pk_us, pk_us]
      exact ⟨rfl, rfl, K, by omega, rfl⟩
    · rw [pk_un (by omega), pk_un (by omega), pk_un (by omega), pk_un (by omega)]
      obtain ⟨g1, g2, j, g3, g4⟩ := h2 p (by omega)
      exact ⟨g1, g2, j, by omega, g4⟩
  · rw [pk_un e]
    refine ⟨h1, fun p hp => ?_⟩
    have h12 := h1.2
    rw [pk_un (by omega), pk_un (by omega), pk_un (by omega), pk_un (by omega)]
    obtain ⟨g1, g2, j, g3, g4⟩ := h2 p hp
    exact ⟨g1, g2, j, by omega, g4⟩
theorem rn_add (h : zz_RN K xfa yfi) : zz_RN (K + 1) (upd xfa (K % 32) (-7)) yfi := by
  refine ⟨fun j h1 h2 => ?_, fun j h1 => h.2 j (by omega)⟩
  by_cases e : j = K
  · subst e
    rw [pk_us, if_pos (h.2 j (Nat.le_refl _))]
  · rw [pk_un (by omega)]
    exact h.1 j (by omega) (by omega)
theorem xx_req {post : Int32 → SX → Prop} {s c : Nat} {v : Int32} (hs : s < 3) (hc : c < 6) (hK : K ≤ 2564) (h : post (nI K) (nI mT, nI mS, nI R, nI mQ, nI T, nI N, op, nI M, nI (K + 1), xtr, xcp, xlo, xpe, xre, xwc, xus, xst, xln, xdn, xdu, xnx, xco, xmi, xwo, xbl, xsc, xrs, xun, xfr, xto, xbu, xsp, xle, xsd, xex, upd xql s (nI (c + 1)), upd xqu (6 * s + c) v, upd xqt (6 * s + c) (nI K), upd xfa (K % 32) (-7))) : wX_request_50 post (nI s) v (nI c) (nI mT) (nI mS) (nI R) (nI mQ) (nI T) (nI N) op (nI M) (nI K) xtr xcp xlo xpe xre xwc xus xst xln xdn xdu xnx xco xmi xwo xbl xsc xrs xun xfr xto xbu xsp xle xsd xex xql xqu xqt xfa := by
  simp (disch := omega) only [wX_request_50, zz_and31, nI_clamp, zz_in, zz_m4, zz_m6, zz_m14, zz_m16, nI_add, zz_p0, zz_p1, zz_p2, zz_p3, zz_p4, zz_p5, zz_p6, zz_p7, zz_p8, zz_p9, zz_p10, zz_p11, zz_p12, zz_p13, zz_a16, true_and, forall_eq]
  exact h
theorem yy_req {post : Int32 → SY → Prop} {s c : Nat} {v : Int32} (hs : s < 3) (hc : c < 6) (h : post (nI K) (nI mT, nI mS, nI R, nI mQ, nI T, nI N, op, nI M, nI (K + 1), yf, ysec, upd ysv (6 * s + 4) (nI (c + 1)), upd yqu (6 * s + c) v, upd yqt (6 * s + c) (nI K), xcp, xlo, ylg, yfi)) : wY_request_136 post v (nI (6 * s)) (nI c) (nI mT) (nI mS) (nI R) (nI mQ) (nI T) (nI N) op (nI M) (nI K) yf ysec ysv yqu yqt xcp xlo ylg yfi := by
  simp (disch := omega) only [wY_request_136, nI_pred, nI_clamp, zz_in, zz_m4, zz_m6, zz_m14, zz_m16, nI_add, zz_p0, zz_p1, zz_p2, zz_p3, zz_p4, zz_p5, zz_p6, zz_p7, zz_p8, zz_p9, zz_p10, zz_p11, zz_p12, zz_p13, zz_a16, true_and, forall_eq]
  exact h
theorem i_vc_request {k : Nat} {u : SX} {v : SY} (I : i_Rel k u v) (hk : k + 5 ≤ 2564) (v1 : Int32) (v2 : Int32) : wpX_request (fun r u' => wpY_request (fun r' v' => r' = r ∧ i_Rel (k + 5) u' v') v v1 v2) u v1 v2 := by
  refine zz_el (P := fun u v => wpX_request (fun r u' => wpY_request (fun r' v' => r' = r ∧ i_Rel (k + 5) u' v') v v1 v2) u v1 v2) ?_ I
  intro mT mS R mQ T N op M K xtr xcp xlo xpe xre xwc xus xst xln xdn xdu xnx xco xmi xwo xbl xsc xrs xun xfr xto xbu xsp xle xsd xex xql xqu xqt xfa yf ysec ysv yqu yqt ylg yfi hR
  have hR0 := zz_up hR
  have J := zz_mk hR0
  obtain ⟨⟨b1, b2, b3, b4, b5, b6, b7, b8, b9, b10⟩, hF, hG, hS, hV, hQ, hL, hN⟩ := hR
  simp only [wpX_request]
  refine xx_isServer (by omega) (fun s hs e => ?_) (fun z => br_t (by trivial) ?_)
  case refine_2 =>
    simp only [wpY_request]
    exact yr_bad2 z (by first | exact J | exact ⟨rfl, J⟩ | exact ⟨trivial, J⟩)
  subst e
  have hs3 : s < 3 := by omega
  have n1 : ¬ nI s < 0 := nI_pos (by omega)
  have n2 : ¬ nI M ≤ nI s := nI_ge hs (by omega)
  obtain ⟨c, hc, ec⟩ := zz_nat_ex (hQ s hs3).1
  have v4 := rv_4 hV
  have v0 := rv_0 hV
  have v1' := rv_1 hV
  have v2' := rv_2 hV
  have v3 := rv_3 hV
  refine br_f (by decide) ?_
  by_cases a1 : v2 < 1
  · simp only [wpY_request]
    exact br_t a1 (br_f n1 (br_f n2 (br_t a1 (by first | exact J | exact ⟨rfl, J⟩ | exact ⟨trivial, J⟩))))
  by_cases a2 : v2 ≤ 60
  case neg =>
    simp only [wpY_request]
    exact br_f a1 (br_f a2 (br_f n1 (br_f n2 (br_f a1 (br_f a2 (by first | exact J | exact ⟨rfl, J⟩ | exact ⟨trivial, J⟩))))))
  refine br_f a1 (br_t a2 ?_)
  by_cases a3 : c < mQ
  case neg =>
    have a3' : ¬ nI c < nI mQ := nI_nlt (by omega) (by omega)
    simp (disch := omega) only [wpY_request, ec, v4, nI_clamp, zz_in, zz_m4, zz_m6, zz_m14, zz_m16, nI_add, zz_p0, zz_p1, zz_p2, zz_p3, zz_p4, zz_p5, zz_p6, zz_p7, zz_p8, zz_p9, zz_p10, zz_p11, zz_p12, zz_p13, zz_a16, true_and, forall_eq]
    exact br_f a3' (br_f n1 (br_f n2 (br_f a1 (br_t a2 (br_f a3' (by first | exact J | exact ⟨rfl, J⟩ | exact ⟨trivial, J⟩))))))
  have a3' : nI c < nI mQ := nI_lt a3 (by omega)
  have key : ∀ (xle xsd ysv : Nat → Int32), zz_RV M xbu xsp xle xsd xql xex ysv → i_Rel (k + 5) (nI mT, nI mS, nI R, nI mQ, nI T, nI N, op, nI M, nI (K + 1), xtr, xcp, xlo, xpe, xre, xwc, xus, xst, xln, xdn, xdu, xnx, xco, xmi, xwo, xbl, xsc, xrs, xun, xfr, xto, xbu, xsp, xle, xsd, xex, upd xql s (nI (c + 1)), upd xqu (6 * s + c) v2, upd xqt (6 * s + c) (nI K), upd xfa (K % 32) (-7)) (nI mT, nI mS, nI R, nI mQ, nI T, nI N, op, nI M, nI (K + 1), yf, ysec, upd ysv (6 * s + 4) (nI (c + 1)), upd yqu (6 * s + c) v2, upd yqt (6 * s + c) (nI K), xcp, xlo, ylg, yfi) := by
    intro xle xsd ysv hV'
    exact zz_mk (k := k + 5) (mT := mT) (mS := mS) (R := R) (mQ := mQ) (T := T) (N := N) (op := op) (M := M) (K := K + 1) (xtr := xtr) (xcp := xcp) (xlo := xlo) (xpe := xpe) (xre := xre) (xwc := xwc) (xus := xus) (xst := xst) (xln := xln) (xdn := xdn) (xdu := xdu) (xnx := xnx) (xco := xco) (xmi := xmi) (xwo := xwo) (xbl := xbl) (xsc := xsc) (xrs := xrs) (xun := xun) (xfr := xfr) (xto := xto) (xbu := xbu) (xsp := xsp) (xle := xle) (xsd := xsd) (xex := xex) (xql := upd xql s (nI (c + 1))) (xqu := upd xqu (6 * s + c) v2) (xqt := upd xqt (6 * s + c) (nI K)) (xfa := upd xfa (K % 32) (-7)) (yf := yf) (ysec := ysec) (ysv := upd ysv (6 * s + 4) (nI (c + 1))) (yqu := upd yqu (6 * s + c) v2) (yqt := upd yqt (6 * s + c) (nI K)) (ylg := ylg) (yfi := yfi) ⟨⟨b1, b2, b3, b4, b5, b6, b7, by omega, b9, b10⟩, hF, hG, hS, rv_u4 hs hV', rq_new hs3 a3 b4 ec hQ, hL, rn_add hN⟩
  have hc6 : c < 6 := by omega
  have hK : K ≤ 2564 := by omega
  simp (disch := omega) only [wpY_request, wpX_renewIfStale, ec, v4, v0, v1', v2', v3, pk_un, nI_clamp, zz_in, zz_m4, zz_m6, zz_m14, zz_m16, nI_add, zz_p0, zz_p1, zz_p2, zz_p3, zz_p4, zz_p5, zz_p6, zz_p7, zz_p8, zz_p9, zz_p10, zz_p11, zz_p12, zz_p13, zz_a16, true_and, forall_eq]
  refine br_t a3' ?_
  by_cases c0 : nI c = 0
  · refine br_t c0 ?_
    by_cases st : xle s * xsp s < (xsd s - nI T) * xbu s
    · exact br_t st (xx_req hs3 hc6 hK (br_f n1 (br_f n2 (br_f a1 (br_t a2 (br_t a3' (br_t c0 (br_t st (yy_req hs3 hc6 ⟨by trivial, key _ _ _ hV⟩)))))))))
    · exact br_f st (xx_req hs3 hc6 hK (br_f n1 (br_f n2 (br_f a1 (br_t a2 (br_t a3' (br_t c0 (br_f st (yy_req hs3 hc6 ⟨by trivial, key _ _ _ (rv_u3 (v := nI T + xsp s) hs (rv_u2 (v := xbu s) hs hV))⟩)))))))))
  · exact br_f c0 (xx_req hs3 hc6 hK (br_f n1 (br_f n2 (br_f a1 (br_t a2 (br_t a3' (br_f c0 (yy_req hs3 hc6 ⟨by trivial, key _ _ _ hV⟩))))))))
end
section
/-! run -/
variable {mT mS R mQ T N M K : Nat} {op : Int32} {xtr xcp xlo xpe xre xwc xus xst xln xdn xdu xnx xco xmi xwo xbl xsc xrs xun xfr xto xbu xsp xle xsd xex xql xqu xqt xfa : Nat → Int32} {yf ysec ysv yqu yqt ylg yfi : Nat → Int32}
theorem i_vc_run {k : Nat} {u : SX} {v : SY} (I : i_Rel k u v) (hk : k + 5 ≤ 2564) (v1 : Int32) : wpX_run (fun r u' => wpY_run (fun r' v' => r' = r ∧ i_Rel (k + 5) u' v') v v1) u v1 := by
  refine zz_el (P := fun u v => wpX_run (fun r u' => wpY_run (fun r' v' => r' = r ∧ i_Rel (k + 5) u' v') v v1) u v1) ?_ I
  intro mT mS R mQ T N op M K xtr xcp xlo xpe xre xwc xus xst xln xdn xdu xnx xco xmi xwo xbl xsc xrs xun xfr xto xbu xsp xle xsd xex xql xqu xqt xfa yf ysec ysv yqu yqt ylg yfi hR
  have hR0 := zz_up hR
  have J := zz_mk hR0
  obtain ⟨⟨b1, b2, b3, b4, b5, b6, b7, b8, b9, b10⟩, hF, hG, hS, hV, hQ, hL, hN⟩ := hR
  simp only [wpX_run, wpY_run]
  by_cases a1 : v1 < 1
  · exact br_t a1 (br_t a1 (by first | exact J | exact ⟨rfl, J⟩ | exact ⟨trivial, J⟩))
  by_cases a2 : v1 ≤ 32
  case neg => exact br_f a1 (br_f a2 (br_f a1 (br_f a2 (by first | exact J | exact ⟨rfl, J⟩ | exact ⟨trivial, J⟩))))
  obtain ⟨c, hc, e⟩ := zz_nat_ex (zz_1of (b := 32) (by decide) a1 (show v1 ≤ nI 32 from a2) (zz_nat_nI (Nat.le_refl _) (by decide)))
  subst e
  obtain ⟨p', u', v', I', hX, hY⟩ := ph_run (k := k + 5) hk hc c 0 0 mT mS R mQ T N op M K xtr xcp xlo xpe xre xwc xus xst xln xdn xdu xnx xco xmi xwo xbl xsc xrs xun xfr xto xbu xsp xle xsd xex xql xqu xqt xfa yf ysec ysv yqu yqt ylg yfi (Nat.zero_add _) hR0
  exact br_f a1 (br_t a2 ⟨c + 1, hX _ (br_f a1 (br_t a2 ⟨c + 1, hY _ ⟨rfl, I'⟩⟩))⟩)
end
