section
/-! ints behind Int32, comparisons, bounds, sums, stores, loops -/
def ck_i (z : Int) : Int32 := Int32.ofInt z
theorem ck_iN (n : Nat) : nI n = ck_i (n : Int) := Int32.ofInt_eq_ofNat.symm
theorem ck_ia (a b : Int) : ck_i a + ck_i b = ck_i (a + b) := (Int32.ofInt_add a b).symm
theorem ck_is (a b : Int) : ck_i a - ck_i b = ck_i (a - b) := (Int32.ofInt_sub a b).symm
theorem ck_im (a b : Int) : ck_i a * ck_i b = ck_i (a * b) := (Int32.ofInt_mul a b).symm
theorem ck_iT {z : Int} (h : -2147483648 ≤ z ∧ z < 2147483648) : (ck_i z).toInt = z := Int32.toInt_ofInt_of_le (by omega) (by omega)
theorem ck_iOf (x : Int32) : x = ck_i x.toInt := (Int32.ofInt_toInt x).symm
theorem ck_le {x y : Int32} {A B : Prop} (a b : Int) (f : a ≤ b → A) (g : b < a → B) (hx : x = ck_i a := by rfl) (hy : y = ck_i b := by rfl) (ha : -2147483648 ≤ a ∧ a < 2147483648 := by omega) (hb : -2147483648 ≤ b ∧ b < 2147483648 := by omega) : (x ≤ y → A) ∧ (¬ x ≤ y → B) := by
  subst hx hy
  rw [Int32.le_iff_toInt_le, ck_iT ha, ck_iT hb]
  exact ⟨f, fun z => g (by omega)⟩
theorem ck_lt {x y : Int32} {A B : Prop} (a b : Int) (f : a < b → A) (g : b ≤ a → B) (hx : x = ck_i a := by rfl) (hy : y = ck_i b := by rfl) (ha : -2147483648 ≤ a ∧ a < 2147483648 := by omega) (hb : -2147483648 ≤ b ∧ b < 2147483648 := by omega) : (x < y → A) ∧ (¬ x < y → B) := by
  subst hx hy
  rw [Int32.lt_iff_toInt_lt, ck_iT ha, ck_iT hb]
  exact ⟨f, fun z => g (by omega)⟩
/-! small index arithmetic: (x = nI a) combinators -/
theorem ck_ad {x y : Int32} {a b : Nat} (hx : x = nI a) (hy : y = nI b) : x + y = nI (a + b) := by rw [hx, hy, nI_add]
theorem ck_ml {x y : Int32} {a b : Nat} (hx : x = nI a) (hy : y = nI b) : x * y = nI (a * b) := by rw [hx, hy, pk_mul]
theorem ck_sb {x y : Int32} {a b : Nat} (hx : x = nI a) (hy : y = nI b) (h : b ≤ a) : x - y = nI (a - b) := by rw [hx, hy, pk_sub h]
theorem ck_adI {x y : Int32} {a b : Int} (hx : x = ck_i a) (hy : y = ck_i b) : x + y = ck_i (a + b) := by rw [hx, hy, ck_ia]
theorem ck_mlI {x y : Int32} {a b : Int} (hx : x = ck_i a) (hy : y = ck_i b) : x * y = ck_i (a * b) := by rw [hx, hy, ck_im]
theorem ck_sbI {x y : Int32} {a b : Int} (hx : x = ck_i a) (hy : y = ck_i b) : x - y = ck_i (a - b) := by rw [hx, hy, ck_is]
/-! bounds -/
def ck_bd (x : Int32) (B : Nat) : Prop := x.toInt.natAbs ≤ B
theorem ck_bd_0 (B : Nat) : ck_bd 0 B := by
  have h0 : (0 : Int32).toInt = 0 := by decide
  unfold ck_bd
  rw [h0]
  exact Nat.zero_le B
theorem ck_bd_w {x : Int32} {A B : Nat} (h : ck_bd x A) (hb : A ≤ B) : ck_bd x B := Nat.le_trans h hb
theorem ck_bd_i {z : Int} {B : Nat} (h : z.natAbs ≤ B) (hB : B < 2147483648) : ck_bd (ck_i z) B := by
  unfold ck_bd
  rw [ck_iT (by omega)]
  exact h
theorem ck_bd_aT {x y : Int32} {A B : Nat} (hx : ck_bd x A) (hy : ck_bd y B) (h : A + B < 2147483648) : (x + y).toInt = x.toInt + y.toInt := by
  unfold ck_bd at hx hy
  rw [Int32.toInt_add]
  exact Int.bmod_eq_of_le (by omega) (by omega)
theorem ck_bd_a {x y : Int32} {A B : Nat} (hx : ck_bd x A) (hy : ck_bd y B) (h : A + B < 2147483648) : ck_bd (x + y) (A + B) := by
  have e := ck_bd_aT hx hy h
  unfold ck_bd at *
  omega
theorem ck_bd_mA {x y : Int32} {A B : Nat} (hx : ck_bd x A) (hy : ck_bd y B) : (x.toInt * y.toInt).natAbs ≤ A * B := by
  rw [Int.natAbs_mul]
  exact Nat.mul_le_mul hx hy
theorem ck_bd_mT {x y : Int32} {A B : Nat} (hx : ck_bd x A) (hy : ck_bd y B) (h : A * B < 2147483648) : (x * y).toInt = x.toInt * y.toInt := by
  have e := ck_bd_mA hx hy
  rw [Int32.toInt_mul]
  generalize x.toInt * y.toInt = z at *
  generalize A * B = C at *
  exact Int.bmod_eq_of_le (by omega) (by omega)
theorem ck_bd_m {x y : Int32} {A B : Nat} (hx : ck_bd x A) (hy : ck_bd y B) (h : A * B < 2147483648) : ck_bd (x * y) (A * B) := by
  have e := ck_bd_mT hx hy h
  unfold ck_bd
  rw [e]
  exact ck_bd_mA hx hy
theorem ck_div4 {x : Int32} {B : Nat} (h : ck_bd x B) (hB : B ≤ 400000000) : (4 * x) / 4 = x := by
  have h4 : (4 : Int32).toInt = 4 := by decide
  have b4 : ck_bd 4 4 := by unfold ck_bd; rw [h4]; decide
  have e := ck_bd_mT b4 h (by omega)
  apply Int32.toInt_inj.mp
  rw [Int32.toInt_div_of_ne_right _ _ (by decide), e, h4]
  exact Int.mul_tdiv_cancel_left _ (by decide)
/-! sums of Int32 -/
def ck_s : Nat → (Nat → Int32) → Int32
  | 0, _ => 0
  | n + 1, f => ck_s n f + f n
def ck_Z : Nat → (Nat → Int) → Int
  | 0, _ => 0
  | n + 1, f => ck_Z n f + f n
theorem ck_s_1 (n : Nat) (f : Nat → Int32) : ck_s (n + 1) f = ck_s n f + f n := rfl
theorem ck_s_c {f g : Nat → Int32} (n : Nat) (h : ∀ q, q < n → f q = g q) : ck_s n f = ck_s n g := by
  induction n with
  | zero => rfl
  | succ n ih => rw [ck_s_1, ck_s_1, ih (fun q hq => h q (by omega)), h n (by omega)]
theorem ck_s_tail {f : Nat → Int32} (m n : Nat) (hm : m ≤ n) (h : ∀ q, m ≤ q → q < n → f q = 0) : ck_s n f = ck_s m f := by
  induction n with
  | zero => rw [show m = 0 by omega]
  | succ n ih =>
    by_cases e : m = n + 1
    · rw [e]
    · rw [ck_s_1, ih (by omega) (fun q h1 h2 => h q h1 (by omega)), h n (by omega) (by omega), Int32.add_zero]
theorem ck_s_bd {f : Nat → Int32} {B : Nat} (n : Nat) (h : ∀ q, q < n → ck_bd (f q) B) (hn : n * B < 2147483648) : ck_bd (ck_s n f) (n * B) ∧ (ck_s n f).toInt = ck_Z n (fun q => (f q).toInt) := by
  induction n with
  | zero => exact ⟨ck_bd_0 _, show (0 : Int32).toInt = 0 by decide⟩
  | succ n ih =>
    rw [Nat.succ_mul] at hn ⊢
    obtain ⟨i1, i2⟩ := ih (fun q hq => h q (by omega)) (by omega)
    refine ⟨ck_bd_a i1 (h n (by omega)) hn, ?_⟩
    show (ck_s n f + f n).toInt = ck_Z n (fun q => (f q).toInt) + (f n).toInt
    rw [ck_bd_aT i1 (h n (by omega)) hn, i2]
/-! stores -/
theorem ck_ue {f : Nat → Int32} {k k' : Nat} {x x' : Int32} (hk : k = k') (hx : x = x') : upd f k x = upd f k' x' := by rw [hk, hx]
def ck_wr (d : Nat → Bool) (r : Nat → Nat) (t : Nat) (v f : Nat → Int32) : Nat → Int32 := fun q => if d q = true ∧ r q < t then v q else f q
theorem ck_wr_s {d : Nat → Bool} {r : Nat → Nat} {t L : Nat} {v f : Nat → Int32} {x : Int32} (hd : d L = true) (hr : r L = t) (hi : ∀ q, d q = true → r q = t → q = L) (hx : x = v L) : upd (ck_wr d r t v f) L x = ck_wr d r (t + 1) v f := by
  funext q
  show (if q = L then x else if d q = true ∧ r q < t then v q else f q) = if d q = true ∧ r q < t + 1 then v q else f q
  by_cases e : q = L
  · subst e
    rw [if_pos rfl, if_pos ⟨hd, by omega⟩, hx]
  · rw [if_neg e]
    by_cases g : d q = true ∧ r q < t
    · rw [if_pos g, if_pos ⟨g.1, by omega⟩]
    · rw [if_neg g, if_neg]
      intro k
      have k2 := k.2
      rcases Nat.lt_or_ge (r q) t with z | z
      · exact g ⟨k.1, z⟩
      · exact e (hi q k.1 (by omega))
theorem ck_wr_e {d : Nat → Bool} {r : Nat → Nat} {t t' : Nat} {v f : Nat → Int32} (h : ∀ q, d q = true → (r q < t ↔ r q < t')) : ck_wr d r t v f = ck_wr d r t' v f := by
  funext q
  show (if d q = true ∧ r q < t then v q else f q) = if d q = true ∧ r q < t' then v q else f q
  by_cases g : d q = true
  · have k := h q g
    by_cases z : r q < t
    · rw [if_pos ⟨g, z⟩, if_pos ⟨g, k.mp z⟩]
    · rw [if_neg (fun y => z y.2), if_neg (fun y => z (k.mpr y.2))]
  · rw [if_neg (fun y => g y.1), if_neg (fun y => g y.1)]
theorem ck_wr_in {d : Nat → Bool} {r : Nat → Nat} {t q : Nat} {v f : Nat → Int32} (hd : d q = true) (hr : r q < t) : ck_wr d r t v f q = v q := if_pos ⟨hd, hr⟩
theorem ck_wr_out {d : Nat → Bool} {r : Nat → Nat} {t q : Nat} {v f : Nat → Int32} (h : d q = true → ¬ r q < t) : ck_wr d r t v f q = f q := if_neg (fun y => h y.1 y.2)
theorem ck_wr_0 {d : Nat → Bool} {r : Nat → Nat} {v f : Nat → Int32} : ck_wr d r 0 v f = f := by
  funext q
  exact ck_wr_out (fun _ => by omega)
/-- a run of places lo .. hi-1 written with v -/
def ck_rg (lo hi : Nat) (v f : Nat → Int32) : Nat → Int32 := fun q => if lo ≤ q ∧ q < hi then v q else f q
theorem ck_rg_in {lo hi q : Nat} {v f : Nat → Int32} (h : lo ≤ q ∧ q < hi) : ck_rg lo hi v f q = v q := if_pos h
theorem ck_rg_out {lo hi q : Nat} {v f : Nat → Int32} (h : ¬ (lo ≤ q ∧ q < hi)) : ck_rg lo hi v f q = f q := if_neg h
theorem ck_rg_0 {lo : Nat} {v f : Nat → Int32} : ck_rg lo lo v f = f := by
  funext q
  exact ck_rg_out (by omega)
theorem ck_rg_s {lo hi : Nat} {v f : Nat → Int32} {x : Int32} (h : lo ≤ hi) (hx : x = v hi) : upd (ck_rg lo hi v f) hi x = ck_rg lo (hi + 1) v f := by
  funext q
  show (if q = hi then x else if lo ≤ q ∧ q < hi then v q else f q) = if lo ≤ q ∧ q < hi + 1 then v q else f q
  by_cases e : q = hi
  · subst e
    rw [if_pos rfl, if_pos ⟨h, by omega⟩, hx]
  · rw [if_neg e]
    by_cases g : lo ≤ q ∧ q < hi
    · rw [if_pos g, if_pos ⟨g.1, by omega⟩]
    · rw [if_neg g, if_neg (by omega)]
/-- the same, the place and the value as they are printed -/
theorem ck_rg_S {lo hi k : Nat} {v f : Nat → Int32} {x : Int32} (hk : k = hi) (h : lo ≤ hi) (hx : x = v hi) : upd (ck_rg lo hi v f) k x = ck_rg lo (hi + 1) v f := by
  rw [hk]
  exact ck_rg_s h hx
/-! loops whose state is a known function of the counter -/
theorem ck_loop {σ : Type} (W : Nat → Nat → σ → Prop) (F : Nat → σ) (e : Nat) (s : σ) (h0 : s = F 0) (hx : ∀ n, W (n + 1) e (F e))
    (hs : ∀ n i, i < e → W n (i + 1) (F (i + 1)) → W (n + 1) i (F i)) : ∃ n, W n 0 s := by
  have key : ∀ n i, i ≤ e → e - i < n → W n i (F i) := by
    intro n
    induction n with
    | zero => intro i _ h; omega
    | succ n ih =>
      intro i hi hn
      by_cases h : i = e
      · subst h
        exact hx n
      · exact hs n i (by omega) (ih (i + 1) (by omega) (by omega))
  exact ⟨e + 1, by rw [h0]; exact key (e + 1) 0 (by omega) (by omega)⟩
/-! residues -/
theorem ck_mm {a b : Nat} (ha : a < 7681) (hb : b < 7681) : nI a * nI b - nI a * nI b / 7681 * 7681 = nI (a * b % 7681) := by
  have h : a * b ≤ 7680 * 7680 := Nat.mul_le_mul (by omega) (by omega)
  rw [pk_mul]
  exact pk_rem (by omega) (by decide) (by decide)
theorem ck_p0 : ¬ (7681 : Int32) = 0 := by decide
theorem ck_m3 (n : Nat) : (n % 3 : Nat) < 3 := Nat.mod_lt _ (by decide)
end
section
/-! power, the constructor, the small methods -/
section
variable {post : Int32 → Prop} {pos2 : St2 → Prop} {pos3 : Int32 → St2 → Prop} {fs fm fc fw : Int32} {a1 a2 a3 a4 a5 a6 a7 a8 a9 a10 a11 a12 a13 a14 : Nat → Int32}
theorem ck_sh : ∀ n, n < 32 → ((nI n &&& 31).toBitVec.smod 32).toNat = n := by decide +kernel
def ck_pwr (N : Nat) : Nat → Nat → Nat → Nat → Nat
  | 0, _, x, _ => x
  | f + 1, i, x, q => ck_pwr N f (i + 1) (if N / 2 ^ i % 2 = 1 then x * q % 7681 else x) (q * q % 7681)
theorem ck_pwr_1 (N f i x q : Nat) : ck_pwr N (f + 1) i x q = ck_pwr N f (i + 1) (if N / 2 ^ i % 2 = 1 then x * q % 7681 else x) (q * q % 7681) := rfl
theorem ck_pwr_a : ck_pwr 480 14 0 1 17 = 7098 := by decide +kernel
theorem ck_pwr_b : ck_pwr 7679 14 0 1 7098 = 7154 := by decide +kernel
theorem ck_pwr_c : ck_pwr 7679 14 0 1 256 = 7651 := by decide +kernel
theorem ck_bit {N i : Nat} (hN : N < 2 ^ 31) (hi : i < 14) : (nI N >>> (nI i &&& 31)) &&& 1 = nI (N / 2 ^ i % 2) := by
  rw [pk_shrN hN _ i (ck_sh i (by omega))]
  exact pk_andN (Nat.lt_of_le_of_lt (Nat.div_le_self _ _) (by omega)) 1 (by decide)
theorem ck_power {a N : Nat} (ha : a < 7681) (hN : N < 2 ^ 31) (H : post (nI (ck_pwr N 14 0 1 a))) : wpX_power post (fs, fm, fc, fw, a1, a2, a3, a4, a5, a6, a7, a8, a9, a10, a11, a12, a13, a14) (nI a) (nI N) := by
  refine pk_loop (σ := Nat × Nat) (fun n i s => wX_power_8 post (nI N) fs fm fc fw a1 a2 a3 a4 a5 a6 a7 a8 a9 a10 a11 a12 a13 a14 n (nI s.1) (nI s.2) (nI i)) (fun i s => s.1 < 7681 ∧ s.2 < 7681 ∧ ck_pwr N (14 - i) i s.1 s.2 = ck_pwr N 14 0 1 a) 14 0 (1, a) (by omega) ⟨show 1 < 7681 by decide, ha, rfl⟩ ?_ ?_
  · intro n s h
    refine pk_le 14 14 (fun _ => ?_) (fun z => absurd z (by omega))
    have e : s.1 = ck_pwr N 14 0 1 a := h.2.2
    rw [e]
    exact H
  · intro n i s hi h hw
    obtain ⟨h1, h2, h3⟩ := h
    rw [show 14 - i = (14 - (i + 1)) + 1 by omega, ck_pwr_1] at h3
    have q1 : s.1 * s.2 % 7681 < 7681 := Nat.mod_lt _ (by decide)
    have q2 : s.2 * s.2 % 7681 < 7681 := Nat.mod_lt _ (by decide)
    refine pk_le 14 i (fun z => absurd z (by omega)) (fun _ => pk_eq (N / 2 ^ i % 2) 1 (fun z => ?_) (fun z => ?_) (ck_bit hN hi) rfl (Nat.lt_of_lt_of_le (Nat.mod_lt _ (by decide)) (by decide)) (by decide))
    · rw [if_pos z] at h3
      exact And.intro ck_p0 (nm_r (ck_mm h1 h2) (And.intro ck_p0 (nm_r (ck_mm h2 h2) (nm_r (nI_1 i) (hw (s.1 * s.2 % 7681, s.2 * s.2 % 7681) ⟨q1, q2, h3⟩)))))
    · rw [if_neg z] at h3
      exact And.intro ck_p0 (nm_r (ck_mm h2 h2) (nm_r (nI_1 i) (hw (s.1, s.2 * s.2 % 7681) ⟨h1, q2, h3⟩)))
/-! the tables of powers -/
def ck_tb (g i : Nat) : Nat → Int32 := fun j => if j ≤ i then nI (g ^ j % 7681) else 0
theorem ck_tb_at {g i j : Nat} (h : j ≤ i) : ck_tb g i j = nI (g ^ j % 7681) := if_pos h
theorem ck_tb_0 (g : Nat) : upd (fun _ => 0) 0 1 = ck_tb g 0 := by
  funext j
  show (if j = 0 then (1 : Int32) else 0) = if j ≤ 0 then nI (g ^ j % 7681) else 0
  by_cases h : j = 0
  · subst h
    rw [if_pos rfl, if_pos (Nat.le_refl 0)]
    rfl
  · rw [if_neg h, if_neg (by omega)]
theorem ck_tb_s {g i : Nat} {x : Int32} (hx : x = nI (g ^ (i + 1) % 7681)) : upd (ck_tb g i) (i + 1) x = ck_tb g (i + 1) := by
  funext j
  show (if j = i + 1 then x else if j ≤ i then nI (g ^ j % 7681) else 0) = if j ≤ i + 1 then nI (g ^ j % 7681) else 0
  by_cases h : j = i + 1
  · rw [if_pos h, if_pos (by omega), hx, h]
  · rw [if_neg h]
    by_cases h2 : j ≤ i
    · rw [if_pos h2, if_pos (by omega)]
    · rw [if_neg h2, if_neg (by omega)]
theorem ck_tb_v {g i : Nat} (hg : g < 7681) : nI (g ^ i % 7681) * nI g - nI (g ^ i % 7681) * nI g / 7681 * 7681 = nI (g ^ (i + 1) % 7681) := by
  rw [ck_mm (Nat.mod_lt _ (by decide)) hg, Nat.pow_succ, Nat.mul_mod, Nat.mod_mod, ← Nat.mul_mod]
theorem ck_i166 {mc ms kc ks : Nat} {z1 z2 z3 z4 z5 z6 z7 z8 z9 z10 z11 z14 : Nat → Int32}
    (H : pos2 (fs, fm, fc, fw, z1, z2, z3, z4, z5, z6, z7, z8, z9, z10, z11, ck_tb 7098 15, ck_tb 7154 15, z14)) :
    ∃ n, wX_init_166 pos2 mc ms (nI 7098) (nI 7154) kc ks fs fm fc fw n 1 z1 z2 z3 z4 z5 z6 z7 z8 z9 z10 z11 (ck_tb 7098 0) (ck_tb 7154 0) z14 := by
  refine ck_loop (σ := (Nat → Int32) × (Nat → Int32)) (fun n i s => wX_init_166 pos2 mc ms (nI 7098) (nI 7154) kc ks fs fm fc fw n (nI (i + 1)) z1 z2 z3 z4 z5 z6 z7 z8 z9 z10 z11 s.1 s.2 z14) (fun i => (ck_tb 7098 i, ck_tb 7154 i)) 15 (ck_tb 7098 0, ck_tb 7154 0) rfl ?_ ?_
  · intro n
    exact pk_le 16 16 (fun _ => H) (fun z => absurd z (by omega))
  · intro n i hi hw
    have c1 : (nI (i + 1) - 1).toNatClampNeg = i := pk_cl i (nI_pred i)
    have c2 : (nI (i + 1)).toNatClampNeg = i + 1 := pk_cl (i + 1)
    refine pk_le 16 (i + 1) (fun z => absurd z (by omega)) (fun _ => And.intro (pk_in i 16 (by omega) (nI_pred i)) (And.intro ck_p0 (And.intro (pk_in (i + 1) 16 (by omega)) (nm_r (e' := ck_tb 7098 (i + 1)) ?_ (And.intro (pk_in i 16 (by omega) (nI_pred i)) (And.intro ck_p0 (And.intro (pk_in (i + 1) 16 (by omega)) (nm_r (e' := ck_tb 7154 (i + 1)) ?_ (nm_r (nI_1 (i + 1)) hw)))))))))
    · rw [c1, c2]
      refine ck_tb_s ?_
      show ck_tb 7098 i i * nI 7098 - ck_tb 7098 i i * nI 7098 / 7681 * 7681 = _
      rw [ck_tb_at (Nat.le_refl i)]
      exact ck_tb_v (by decide)
    · rw [c1, c2]
      refine ck_tb_s ?_
      show ck_tb 7154 i i * nI 7154 - ck_tb 7154 i i * nI 7154 / 7681 * 7681 = _
      rw [ck_tb_at (Nat.le_refl i)]
      exact ck_tb_v (by decide)
def ck_z : Nat → Int32 := fun _ => 0
theorem ck_init {mc ms : Nat} (hm : 14 ≤ mc) (hs : 2242 ≤ ms)
    (H : pos2 (1, 1, fc, fw, ck_z, ck_z, ck_z, ck_z, ck_z, ck_z, ck_z, ck_z, ck_z, ck_z, ck_z, ck_tb 7098 15, ck_tb 7154 15, ck_z)) : wpX_init pos2 mc ms (fs, fm, fc, fw) := by
  unfold wpX_init
  dsimp only
  refine ⟨by omega, by omega, by omega, by omega, by omega, by omega, by omega, by omega, by omega, by omega, by omega, by omega, by omega, by omega, by omega, by omega, by omega, by omega, by omega, by omega, by omega, by omega, by omega, by omega, by omega, by omega, by omega, by omega, ?_⟩
  refine ck_power (a := 17) (N := 480) (by decide) (by decide) ?_
  rw [ck_pwr_a]
  refine ck_power (a := 7098) (N := 7679) (by decide) (by decide) ?_
  rw [ck_pwr_b]
  refine nm_r (ck_tb_0 7098) (nm_r (ck_tb_0 7154) ?_)
  exact ck_i166 H
/-! clamp, at, add, result, greater, pixel, kernel, reduce -/
theorem ck_clamp {z : Int} {zz : Int32} (e : zz = ck_i z) (h : -20 ≤ z ∧ z ≤ 20) (H : post zz) : wpX_clamp post (fs, fm, fc, fw, a1, a2, a3, a4, a5, a6, a7, a8, a9, a10, a11, a12, a13, a14) zz :=
  ck_le (-20) z (fun _ => ck_le z 20 (fun _ => H) (fun t => absurd t (by omega)) e (by decide)) (fun t => absurd t (by omega)) (by decide) e
def ck_at (p : Nat → Int32) (c : Nat) (x y : Int) : Int32 := if 0 ≤ x ∧ x < 8 ∧ 0 ≤ y ∧ y < 8 then p (64 * c + 8 * y.toNat + x.toNat) else 0
theorem ck_at_n {p : Nat → Int32} {c : Nat} {x y : Int} (h : ¬ (0 ≤ x ∧ x < 8 ∧ 0 ≤ y ∧ y < 8)) : ck_at p c x y = 0 := if_neg h
theorem ck_at_p {p : Nat → Int32} {c X Y : Nat} (h : X < 8 ∧ Y < 8) : ck_at p c X Y = p (64 * c + 8 * Y + X) := if_pos (by omega)
theorem ck_wat {c : Nat} {x y : Int} {xx yy : Int32} (hc : c < 2) (hx : -1000 ≤ x ∧ x ≤ 1000) (hy : -1000 ≤ y ∧ y ≤ 1000) (ex : xx = ck_i x) (ey : yy = ck_i y) (H : post (ck_at a1 c x y)) : wpX_at post (fs, fm, fc, fw, a1, a2, a3, a4, a5, a6, a7, a8, a9, a10, a11, a12, a13, a14) (nI c) xx yy := by
  have e0 : ¬ (0 ≤ x ∧ x < 8 ∧ 0 ≤ y ∧ y < 8) → post 0 := fun h => by
    rw [ck_at_n h] at H
    exact H
  refine ck_lt x 0 (fun h => e0 (by omega)) (fun h1 => ck_le 8 x (fun h => e0 (by omega)) (fun h2 => ck_lt y 0 (fun h => e0 (by omega)) (fun h3 => ck_lt y 8 (fun h4 => ?_) (fun h => e0 (by omega)) ey (by decide)) ey (by decide)) (by decide) ex) ex (by decide)
  obtain ⟨X, rfl⟩ : ∃ X : Nat, x = X := ⟨x.toNat, by omega⟩
  obtain ⟨Y, rfl⟩ : ∃ Y : Nat, y = Y := ⟨y.toNat, by omega⟩
  have ei : ((64 * nI c) + (8 * yy)) + xx = nI (64 * c + 8 * Y + X) := by
    rw [ex, ey, ← ck_iN, ← ck_iN]
    exact ck_ad (ck_ad (ck_ml rfl rfl) (ck_ml rfl rfl)) rfl
  refine And.intro (pk_in _ 128 (by omega) ei) ?_
  rw [pk_cl _ ei (by omega)]
  rw [ck_at_p (by omega)] at H
  exact H
theorem ck_add {x y w : Nat} {xx yy v : Int32} (ex : xx = nI x) (ey : yy = nI y) (hx : x < w) (hy : y < w) (hw : w ≤ 8) (H : pos2 (fs, fm, fc, nI w, a1, a2, upd a3 (8 * y + x) (a3 (8 * y + x) + v), a4, a5, a6, a7, a8, a9, a10, a11, a12, a13, a14)) : wpX_add pos2 (fs, fm, fc, nI w, a1, a2, a3, a4, a5, a6, a7, a8, a9, a10, a11, a12, a13, a14) xx yy v := by
  subst ex ey
  have ei : 8 * nI y + nI x = nI (8 * y + x) := ck_ad (ck_ml rfl rfl) rfl
  have ec : (8 * nI y + nI x).toNatClampNeg = 8 * y + x := pk_cl _ ei (by omega)
  refine pk_le w x (fun z => absurd z (by omega)) (fun _ => pk_le w y (fun z => absurd z (by omega)) (fun _ => And.intro (pk_in _ 64 (by omega) ei) (And.intro (pk_in _ 64 (by omega) ei) (nm_r ?_ H))))
  rw [ec]
theorem ck_result {x y w : Nat} (hx : x < 8) (hy : y < 8) (hw : w ≤ 8) (H : post (if x < w ∧ y < w then a3 (8 * y + x) else 0)) : wpX_result post (fs, fm, fc, nI w, a1, a2, a3, a4, a5, a6, a7, a8, a9, a10, a11, a12, a13, a14) (nI x) (nI y) := by
  have ei : 8 * nI y + nI x = nI (8 * y + x) := ck_ad (ck_ml rfl rfl) rfl
  have ec : (8 * nI y + nI x).toNatClampNeg = 8 * y + x := pk_cl _ ei (by omega)
  have e0 : ¬ (x < w ∧ y < w) → post 0 := fun h => by
    rw [if_neg h] at H
    exact H
  refine pk_lt x 0 (fun z => absurd z (by omega)) (fun _ => pk_le w x (fun z => e0 (by omega)) (fun h1 => pk_lt y 0 (fun z => absurd z (by omega)) (fun _ => pk_lt y w (fun h2 => And.intro (pk_in _ 64 (by omega) ei) ?_) (fun z => e0 (by omega)))))
  rw [ec]
  rw [if_pos ⟨h1, h2⟩] at H
  exact H
def ck_mx (a b : Int32) : Int32 := if a ≤ b then b else a
theorem ck_greater {a b : Int32} (H : post (ck_mx a b)) : wpX_greater post (fs, fm, fc, fw, a1, a2, a3, a4, a5, a6, a7, a8, a9, a10, a11, a12, a13, a14) a b := by
  unfold ck_mx at H
  refine br_c (fun h => ?_) (fun h => ?_)
  · rw [if_pos h] at H
    exact H
  · rw [if_neg h] at H
    exact H
theorem ck_pixel {q : Nat} (hq : q < 128) (H : post (a1 q)) : wpX_pixel post (fs, fm, fc, fw, a1, a2, a3, a4, a5, a6, a7, a8, a9, a10, a11, a12, a13, a14) (nI q) := by
  refine pk_lt q 0 (fun z => absurd z (by omega)) (fun _ => pk_le q 127 (fun _ => And.intro (pk_in q 128 hq) ?_) (fun z => absurd z (by omega)))
  rw [nI_clamp (by omega)]
  exact H
theorem ck_kernel {q : Nat} {z : Int} {v : Int32} (hq : q < 18) (ev : v = ck_i z) (hz : -9 ≤ z ∧ z ≤ 9) (H : ∀ r, pos3 r (fs, fm, fc, fw, a1, upd a2 q v, a3, a4, a5, a6, a7, a8, a9, a10, a11, a12, a13, a14)) : wpX_kernel pos3 (fs, fm, fc, fw, a1, a2, a3, a4, a5, a6, a7, a8, a9, a10, a11, a12, a13, a14) (nI q) v := by
  refine pk_lt q 0 (fun z => absurd z (by omega)) (fun _ => pk_lt 17 q (fun z => absurd z (by omega)) (fun _ => ck_lt z (-9) (fun t => absurd t (by omega)) (fun _ => ck_le z 9 (fun _ => And.intro (pk_in q 18 hq) (nm_e (And.intro (pk_in q 18 hq) (nm_r ?_ (H _))))) (fun t => absurd t (by omega)) ev (by decide)) ev (by decide)))
  rw [nI_clamp (by omega)]
def ck_rd (x : Int32) : Nat := (x.toInt % 7681).toNat
theorem ck_rd_lt (x : Int32) : ck_rd x < 7681 := by
  unfold ck_rd
  omega
theorem ck_rd_z (x : Int32) : ((ck_rd x : Nat) : Int) = x.toInt % 7681 := by
  unfold ck_rd
  omega
theorem ck_rem_s {x : Int32} (h : ck_bd x 7680) : x - x / 7681 * 7681 = x := by
  have e : x / 7681 = 0 := by
    apply Int32.toInt_inj.mp
    rw [Int32.toInt_div_of_ne_right _ _ (by decide), show (7681 : Int32).toInt = 7681 from by decide, show (0 : Int32).toInt = 0 from by decide]
    unfold ck_bd at h
    rcases Int.le_total 0 x.toInt with z | z
    · exact Int.tdiv_eq_zero_of_lt z (by omega)
    · have t : (-x.toInt).tdiv 7681 = 0 := Int.tdiv_eq_zero_of_lt (by omega) (by omega)
      rw [Int.neg_tdiv] at t
      omega
  rw [e, Int32.zero_mul, Int32.sub_zero]
theorem ck_reduce {x : Int32} (h : ck_bd x 7680) (H : post (nI (ck_rd x))) : wpX_reduce post (fs, fm, fc, fw, a1, a2, a3, a4, a5, a6, a7, a8, a9, a10, a11, a12, a13, a14) x := by
  refine And.intro ck_p0 (nm_r (ck_rem_s h) (ck_le 0 x.toInt (fun z => ?_) (fun z => ?_) (by decide) (ck_iOf x) (by omega) (by have := Int32.toInt_lt x; have := Int32.le_toInt x; omega)))
  · have e : x = nI (ck_rd x) := by
      rw [ck_iN, ck_rd_z, ck_iOf x]
      unfold ck_bd at h
      rw [← ck_iOf x]
      exact (congrArg ck_i (show x.toInt = x.toInt % 7681 by omega) ▸ ck_iOf x)
    rw [← e] at H
    exact H
  · have e : x + 7681 = nI (ck_rd x) := by
      rw [ck_iN, ck_rd_z]
      unfold ck_bd at h
      exact (ck_adI (ck_iOf x) (show (7681 : Int32) = ck_i 7681 by decide)).trans (congrArg ck_i (by omega))
    rw [e]
    exact H
/-! widthNow, shape, way -/
def ck_wd (s m : Nat) : Nat := if s = 1 then 6 + 2 * m else 3 + m
theorem ck_wd_le {s m : Nat} (hm : m < 2) : 3 ≤ ck_wd s m ∧ ck_wd s m ≤ 8 := by
  unfold ck_wd
  by_cases h : s = 1
  · rw [if_pos h]; omega
  · rw [if_neg h]; omega
theorem ck_widthNow {s m : Nat} (hs : s = 1 ∨ s = 2) (hm : m < 2) (H : post (nI (ck_wd s m))) : wpX_widthNow post (nI s, nI m, fc, fw, a1, a2, a3, a4, a5, a6, a7, a8, a9, a10, a11, a12, a13, a14) := by
  have hm' : m = 0 ∨ m = 1 := by omega
  rcases hs with rfl | rfl <;> rcases hm' with rfl | rfl
  · exact nm_r (show _ = nI 5 by decide) (br_t (by decide) H)
  · exact nm_r (show _ = nI 7 by decide) (br_t (by decide) H)
  · refine nm_r (show _ = nI 5 by decide) (br_f (by decide) ?_)
    rw [show nI 5 >>> ((1 : Int32) &&& 31) + 1 = nI (ck_wd 2 0) by decide]
    exact H
  · refine nm_r (show _ = nI 7 by decide) (br_f (by decide) ?_)
    rw [show nI 7 >>> ((1 : Int32) &&& 31) + 1 = nI (ck_wd 2 1) by decide]
    exact H
theorem ck_shape {s m : Nat} (hs : s = 1 ∨ s = 2) (hm : m < 2) (H : pos3 (nI (ck_wd s m)) (nI s, nI m, fc, fw, a1, a2, a3, a4, a5, a6, a7, a8, a9, a10, a11, a12, a13, a14)) : wpX_shape pos3 (fs, fm, fc, fw, a1, a2, a3, a4, a5, a6, a7, a8, a9, a10, a11, a12, a13, a14) (nI s) (nI m) :=
  pk_lt s 1 (fun z => absurd z (by omega)) (fun _ => pk_lt 2 s (fun z => absurd z (by omega)) (fun _ => pk_lt m 0 (fun z => absurd z (by omega)) (fun _ => pk_le m 1 (fun _ => ck_widthNow hs hm H) (fun z => absurd z (by omega)))))
theorem ck_way {n : Nat} (hn : n < 4) (H : pos3 0 (fs, fm, nI n, fw, a1, a2, a3, a4, a5, a6, a7, a8, a9, a10, a11, a12, a13, a14)) : wpX_way pos3 (fs, fm, fc, fw, a1, a2, a3, a4, a5, a6, a7, a8, a9, a10, a11, a12, a13, a14) (nI n) :=
  pk_lt n 0 (fun z => absurd z (by omega)) (fun _ => pk_le n 3 (fun _ => H) (fun z => absurd z (by omega)))
end
end
section
/-! fill; the third way: windows -/
section
variable {post : Int32 → Prop} {pos2 : St2 → Prop} {pos3 : Int32 → St2 → Prop} {fs fm fc fw : Int32} {a1 a2 a3 a4 a5 a6 a7 a8 a9 a10 a11 a12 a13 a14 : Nat → Int32}
def ck_fv (c : Nat) (A B D : Int) : Nat → Int32 := fun q => ck_i (A + B * (((q - 64 * c) % 8 : Nat) : Int) + D * (((q - 64 * c) / 8 : Nat) : Int))
theorem ck_fv_at {c x y : Nat} {A B D : Int} (hx : x < 8) : ck_fv c A B D (64 * c + 8 * y + x) = ck_i (A + B * (x : Int) + D * (y : Int)) := by
  unfold ck_fv
  rw [show (64 * c + 8 * y + x - 64 * c) % 8 = x by omega, show (64 * c + 8 * y + x - 64 * c) / 8 = y by omega]
theorem ck_fill89 {J : Int32 → (Nat → Int32) → (Nat → Int32) → (Nat → Int32) → (Nat → Int32) → (Nat → Int32) → (Nat → Int32) → (Nat → Int32) → (Nat → Int32) → (Nat → Int32) → (Nat → Int32) → (Nat → Int32) → (Nat → Int32) → (Nat → Int32) → (Nat → Int32) → Prop} {c y : Nat} {A B D : Int} (hc : c < 2) (hy : y < 8) (hb : ∀ x : Nat, x < 8 → -20 ≤ A + B * (x : Int) + D * (y : Int) ∧ A + B * (x : Int) + D * (y : Int) ≤ 20)
    (H : J (nI (y + 1)) (ck_rg (64 * c) (64 * c + 8 * y + 8) (ck_fv c A B D) a1) a2 a3 a4 a5 a6 a7 a8 a9 a10 a11 a12 a13 a14) :
    ∃ n, wX_fill_89 pos3 J (nI c) (ck_i A) 0 (ck_i B) (ck_i D) (nI y) fs fm fc fw n 0 (ck_rg (64 * c) (64 * c + 8 * y) (ck_fv c A B D) a1) a2 a3 a4 a5 a6 a7 a8 a9 a10 a11 a12 a13 a14 := by
  refine ck_loop (fun n x s => wX_fill_89 pos3 J (nI c) (ck_i A) 0 (ck_i B) (ck_i D) (nI y) fs fm fc fw n (nI x) s a2 a3 a4 a5 a6 a7 a8 a9 a10 a11 a12 a13 a14) (fun x => ck_rg (64 * c) (64 * c + 8 * y + x) (ck_fv c A B D) a1) 8 _ rfl ?_ ?_
  · intro n
    exact pk_le 8 8 (fun _ => nm_r (nI_1 y) H) (fun z => absurd z (by omega))
  · intro n x hx hw
    have ez : ((ck_i A + (ck_i B * nI x)) + (ck_i D * nI y)) + ((0 * nI x) * nI y) = ck_i (A + B * (x : Int) + D * (y : Int)) :=
      (ck_adI (ck_adI (ck_adI rfl (ck_mlI rfl (ck_iN x))) (ck_mlI rfl (ck_iN y))) (ck_mlI (ck_mlI (show (0 : Int32) = ck_i 0 by decide) (ck_iN x)) (ck_iN y))).trans (congrArg ck_i (by rw [Int.zero_mul, Int.zero_mul, Int.add_zero]))
    have ei : ((64 * nI c) + (8 * nI y)) + nI x = nI (64 * c + 8 * y + x) := ck_ad (ck_ad (ck_ml rfl rfl) (ck_ml rfl rfl)) rfl
    refine pk_le 8 x (fun z => absurd z (by omega)) (fun _ => ck_clamp ez (hb x hx) (And.intro (pk_in (64 * c + 8 * y + x) 128 (by omega) ei) (nm_r (ck_rg_S (pk_cl _ ei (by omega)) (by omega) (ez.trans (ck_fv_at hx).symm)) (nm_r (nI_1 x) hw))))
theorem ck_fill79 {c : Nat} {A B D : Int} (hc : c < 2) (hb : ∀ x y : Nat, x < 8 → y < 8 → -20 ≤ A + B * (x : Int) + D * (y : Int) ∧ A + B * (x : Int) + D * (y : Int) ≤ 20)
    (H : pos3 0 (fs, fm, fc, fw, ck_rg (64 * c) (64 * c + 64) (ck_fv c A B D) a1, a2, a3, a4, a5, a6, a7, a8, a9, a10, a11, a12, a13, a14)) :
    ∃ n, wX_fill_79 pos3 (nI c) (ck_i A) 0 (ck_i B) (ck_i D) fs fm fc fw n 0 a1 a2 a3 a4 a5 a6 a7 a8 a9 a10 a11 a12 a13 a14 := by
  refine ck_loop (fun n y s => wX_fill_79 pos3 (nI c) (ck_i A) 0 (ck_i B) (ck_i D) fs fm fc fw n (nI y) s a2 a3 a4 a5 a6 a7 a8 a9 a10 a11 a12 a13 a14) (fun y => ck_rg (64 * c) (64 * c + 8 * y) (ck_fv c A B D) a1) 8 _ ck_rg_0.symm ?_ ?_
  · intro n
    exact pk_le 8 8 (fun _ => H) (fun z => absurd z (by omega))
  · intro n y hy hw
    rw [show 64 * c + 8 * (y + 1) = 64 * c + 8 * y + 8 by omega] at hw
    exact pk_le 8 y (fun z => absurd z (by omega)) (fun _ => ck_fill89 hc hy (fun x hx => hb x y hx hy) hw)
def ck_sl (b d : Nat) : Int32 := ((100 * ((nI b - 1) + 10)) + (nI d - 1)) + 10
theorem ck_sl_1 : ∀ b, b < 3 → ∀ d, d < 3 → ck_sl b d / 100 - 10 = ck_i ((b : Int) - 1) := by decide +kernel
theorem ck_sl_2 : ∀ b, b < 3 → ∀ d, d < 3 → (ck_sl b d - ck_sl b d / 100 * 100) - 10 = ck_i ((d : Int) - 1) := by decide +kernel
theorem ck_sl_3 : ∀ b, b < 3 → ∀ d, d < 3 → ¬ ck_sl b d < 0 := by decide +kernel
theorem ck_fb {A : Int} {b d x y : Nat} (hA : -3 ≤ A ∧ A ≤ 4) (hb : b < 3) (hd : d < 3) (hx : x < 8) (hy : y < 8) : -20 ≤ A + ((b : Int) - 1) * (x : Int) + ((d : Int) - 1) * (y : Int) ∧ A + ((b : Int) - 1) * (x : Int) + ((d : Int) - 1) * (y : Int) ≤ 20 := by
  have hb' : b = 0 ∨ b = 1 ∨ b = 2 := by omega
  have hd' : d = 0 ∨ d = 1 ∨ d = 2 := by omega
  rcases hb' with rfl | rfl | rfl <;> rcases hd' with rfl | rfl | rfl <;> omega
theorem ck_fill {c b d : Nat} {A : Int} (hc : c < 2) (hA : -3 ≤ A ∧ A ≤ 4) (hb : b < 3) (hd : d < 3)
    (H : pos3 0 (fs, fm, fc, fw, ck_rg (64 * c) (64 * c + 64) (ck_fv c A ((b : Int) - 1) ((d : Int) - 1)) a1, a2, a3, a4, a5, a6, a7, a8, a9, a10, a11, a12, a13, a14)) : wpX_fill pos3 (fs, fm, fc, fw, a1, a2, a3, a4, a5, a6, a7, a8, a9, a10, a11, a12, a13, a14) (nI c) (ck_i A) (ck_sl b d) 0 := by
  refine And.intro (by decide) (nm_r (ck_sl_1 b hb d hd) (And.intro (by decide) (nm_r (ck_sl_2 b hb d hd) ?_)))
  refine pk_lt c 0 (fun z => absurd z (by omega)) (fun _ => pk_lt 1 c (fun z => absurd z (by omega)) (fun _ => ck_lt A (-20) (fun z => absurd z (by omega)) (fun _ => ck_lt 20 A (fun z => absurd z (by omega)) (fun _ => br_f (by decide) (br_t (by decide) (br_f (ck_sl_3 b hb d hd) (ck_lt 10 ((b : Int) - 1) (fun z => absurd z (by omega)) (fun _ => ck_le ((d : Int) - 1) 10 (fun _ => ?_) (fun z => absurd z (by omega)) rfl (by decide)) (by decide) rfl)))) (by decide) rfl) rfl (by decide)))
  exact ck_fill79 hc (fun x y hx hy => ck_fb hA hb hd hx hy) H
/-! what a result is -/
def ck_R (k p : Nat → Int32) (s m x y : Nat) : Int32 := ck_s 18 (fun q => ck_at p (q / 9) ((s : Int) * (x : Int) - (m : Int) + ((q % 9 % 3 : Nat) : Int)) ((s : Int) * (y : Int) - (m : Int) + ((q % 9 / 3 : Nat) : Int)) * k q)
/-! stretch -/
def ck_wv (p : Nat → Int32) (X Y : Int) (T : Nat) : Nat → Int32 := fun j => ck_at p ((j - T) / 9) (X + (((j - T) % 9 % 3 : Nat) : Int)) (Y + (((j - T) % 9 / 3 : Nat) : Int))
theorem ck_wv_at {p : Nat → Int32} {X Y : Int} {T c k : Nat} (hk : k < 9) : ck_wv p X Y T (T + 9 * c + k) = ck_at p c (X + ((k % 3 : Nat) : Int)) (Y + ((k / 3 : Nat) : Int)) := by
  unfold ck_wv
  rw [show (T + 9 * c + k - T) / 9 = c by omega, show (T + 9 * c + k - T) % 9 = k by omega]
theorem ck_str12 {J : Int32 → (Nat → Int32) → (Nat → Int32) → (Nat → Int32) → (Nat → Int32) → (Nat → Int32) → (Nat → Int32) → (Nat → Int32) → (Nat → Int32) → (Nat → Int32) → (Nat → Int32) → (Nat → Int32) → (Nat → Int32) → (Nat → Int32) → (Nat → Int32) → Prop} {T c : Nat} {X Y : Int} (hT : T + 18 ≤ 1152) (hc : c < 2) (hX : -100 ≤ X ∧ X ≤ 100) (hY : -100 ≤ Y ∧ Y ≤ 100)
    (H : J (nI (c + 1)) a1 a2 a3 a4 a5 a6 a7 a8 a9 a10 a11 a12 a13 (ck_rg T (T + 9 * c + 9) (ck_wv a1 X Y T) a14)) :
    ∃ n, wX_stretch_12 pos2 J (nI T) (ck_i X) (ck_i Y) (nI c) fs fm fc fw n 0 a1 a2 a3 a4 a5 a6 a7 a8 a9 a10 a11 a12 a13 (ck_rg T (T + 9 * c) (ck_wv a1 X Y T) a14) := by
  refine ck_loop (fun n k s => wX_stretch_12 pos2 J (nI T) (ck_i X) (ck_i Y) (nI c) fs fm fc fw n (nI k) a1 a2 a3 a4 a5 a6 a7 a8 a9 a10 a11 a12 a13 s) (fun k => ck_rg T (T + 9 * c + k) (ck_wv a1 X Y T) a14) 9 _ rfl ?_ ?_
  · intro n
    exact pk_le 9 9 (fun _ => nm_r (nI_1 c) H) (fun z => absurd z (by omega))
  · intro n k hk hw
    have e1 : ck_i X + (nI k - nI k / 3 * 3) = ck_i (X + ((k % 3 : Nat) : Int)) := ck_adI rfl ((pk_rem (d := 3) (by omega) (by decide) (by decide)).trans (ck_iN _))
    have e2 : ck_i Y + nI k / 3 = ck_i (Y + ((k / 3 : Nat) : Int)) := ck_adI rfl ((pk_div (d := 3) (by omega) (by decide) (by decide)).trans (ck_iN _))
    have ei : (nI T + (9 * nI c)) + nI k = nI (T + 9 * c + k) := ck_ad (ck_ad rfl (ck_ml rfl rfl)) rfl
    refine pk_le 9 k (fun z => absurd z (by omega)) (fun _ => And.intro (by decide) (And.intro (by decide) (ck_wat hc (by omega) (by omega) e1 e2 (And.intro (pk_in (T + 9 * c + k) 1152 (by omega) ei) (nm_r (ck_rg_S (pk_cl _ ei (by omega)) (by omega) (ck_wv_at hk).symm) (nm_r (nI_1 k) hw))))))
theorem ck_stretch {T : Nat} {X Y : Int} {xx yy : Int32} (hT : T + 18 ≤ 1152) (hX : -100 ≤ X ∧ X ≤ 100) (hY : -100 ≤ Y ∧ Y ≤ 100) (ex : xx = ck_i X) (ey : yy = ck_i Y)
    (H : pos2 (fs, fm, fc, fw, a1, a2, a3, a4, a5, a6, a7, a8, a9, a10, a11, a12, a13, ck_rg T (T + 18) (ck_wv a1 X Y T) a14)) : wpX_stretch pos2 (fs, fm, fc, fw, a1, a2, a3, a4, a5, a6, a7, a8, a9, a10, a11, a12, a13, a14) (nI T) xx yy := by
  subst ex ey
  refine ck_loop (fun n c s => wX_stretch_3 pos2 (nI T) (ck_i X) (ck_i Y) fs fm fc fw n (nI c) a1 a2 a3 a4 a5 a6 a7 a8 a9 a10 a11 a12 a13 s) (fun c => ck_rg T (T + 9 * c) (ck_wv a1 X Y T) a14) 2 _ ck_rg_0.symm ?_ ?_
  · intro n
    exact pk_le 2 2 (fun _ => H) (fun z => absurd z (by omega))
  · intro n c hc hw
    rw [show T + 9 * (c + 1) = T + 9 * c + 9 by omega] at hw
    exact pk_le 2 c (fun z => absurd z (by omega)) (fun _ => ck_str12 hT hc hX hY hw)
/-! all the windows -/
def ck_wd1 (w : Nat) : Nat → Bool := fun j => decide (j / 18 % 8 < w)
def ck_wv2 (p : Nat → Int32) (s m : Nat) : Nat → Int32 := fun j => ck_at p (j % 18 / 9) ((s : Int) * ((j / 18 % 8 : Nat) : Int) - (m : Int) + ((j % 18 % 9 % 3 : Nat) : Int)) ((s : Int) * ((j / 18 / 8 : Nat) : Int) - (m : Int) + ((j % 18 % 9 / 3 : Nat) : Int))
def ck_wn (p : Nat → Int32) (s m w t : Nat) (f : Nat → Int32) : Nat → Int32 := ck_wr (ck_wd1 w) (fun j => j / 18) t (ck_wv2 p s m) f
theorem ck_wn_in {p f : Nat → Int32} {s m w t j : Nat} (h : j / 18 % 8 < w) (h2 : j / 18 < t) : ck_wn p s m w t f j = ck_wv2 p s m j := if_pos ⟨decide_eq_true h, h2⟩
theorem ck_wn_s {p f : Nat → Int32} {s m w x y : Nat} (hx : x < w) (hw : w ≤ 8) :
    ck_rg (18 * (8 * y + x)) (18 * (8 * y + x) + 18) (ck_wv p ((s : Int) * (x : Int) - (m : Int)) ((s : Int) * (y : Int) - (m : Int)) (18 * (8 * y + x))) (ck_wn p s m w (8 * y + x) f) = ck_wn p s m w (8 * y + x + 1) f := by
  funext j
  by_cases g : 18 * (8 * y + x) ≤ j ∧ j < 18 * (8 * y + x) + 18
  · have q : j / 18 = 8 * y + x := by omega
    rw [ck_rg_in g]
    rw [ck_wn_in (by omega) (by omega)]
    unfold ck_wv ck_wv2
    rw [show j - 18 * (8 * y + x) = j % 18 by omega, show j / 18 % 8 = x by omega, show j / 18 / 8 = y by omega]
  · rw [ck_rg_out g]
    have q : j / 18 ≠ 8 * y + x := by omega
    show (if _ ∧ _ then _ else _) = (if _ ∧ _ then _ else _)
    by_cases k : j / 18 < 8 * y + x
    · have k' : j / 18 < 8 * y + x + 1 := by omega
      by_cases d : ck_wd1 w j = true
      · rw [if_pos ⟨d, k⟩, if_pos ⟨d, k'⟩]
      · rw [if_neg (fun z => d z.1), if_neg (fun z => d z.1)]
    · rw [if_neg (fun z => k z.2), if_neg (fun z => absurd z.2 (show ¬ j / 18 < 8 * y + x + 1 by omega))]
theorem ck_wn_r {p f : Nat → Int32} {s m w y : Nat} (hw : w ≤ 8) : ck_wn p s m w (8 * y + w) f = ck_wn p s m w (8 * (y + 1)) f :=
  ck_wr_e (fun q hd => by
    have h : q / 18 % 8 < w := of_decide_eq_true hd
    show q / 18 < 8 * y + w ↔ q / 18 < 8 * (y + 1)
    omega)
theorem ck_mw12 {J : Int32 → Int32 → Int32 → Int32 → Int32 → (Nat → Int32) → (Nat → Int32) → (Nat → Int32) → (Nat → Int32) → (Nat → Int32) → (Nat → Int32) → (Nat → Int32) → (Nat → Int32) → (Nat → Int32) → (Nat → Int32) → (Nat → Int32) → (Nat → Int32) → (Nat → Int32) → (Nat → Int32) → Prop} {s m w y : Nat} (hs : s = 1 ∨ s = 2) (hm : m < 2) (hw : w ≤ 8) (hy : y < w)
    (H : J (nI (y + 1)) (nI s) (nI m) fc (nI w) a1 a2 a3 a4 a5 a6 a7 a8 a9 a10 a11 a12 a13 (ck_wn a1 s m w (8 * (y + 1)) a14)) :
    ∃ n, wX_moveByWindows_12 pos2 J (nI y) n 0 (nI s) (nI m) fc (nI w) a1 a2 a3 a4 a5 a6 a7 a8 a9 a10 a11 a12 a13 (ck_wn a1 s m w (8 * y) a14) := by
  refine ck_loop (fun n x t => wX_moveByWindows_12 pos2 J (nI y) n (nI x) (nI s) (nI m) fc (nI w) a1 a2 a3 a4 a5 a6 a7 a8 a9 a10 a11 a12 a13 t) (fun x => ck_wn a1 s m w (8 * y + x) a14) w _ rfl ?_ ?_
  · intro n
    refine pk_le w w (fun _ => nm_r (nI_1 y) ?_) (fun z => absurd z (by omega))
    show J _ _ _ _ _ _ _ _ _ _ _ _ _ _ _ _ _ _ (ck_wn a1 s m w (8 * y + w) a14)
    rw [ck_wn_r hw]
    exact H
  · intro n x hx hk
    have e1 : nI s * nI x - nI m = ck_i ((s : Int) * (x : Int) - (m : Int)) := ck_sbI (ck_mlI (ck_iN s) (ck_iN x)) (ck_iN m)
    have e2 : nI s * nI y - nI m = ck_i ((s : Int) * (y : Int) - (m : Int)) := ck_sbI (ck_mlI (ck_iN s) (ck_iN y)) (ck_iN m)
    have ei : 18 * ((8 * nI y) + nI x) = nI (18 * (8 * y + x)) := ck_ml rfl (ck_ad (ck_ml rfl rfl) rfl)
    rw [← Nat.add_assoc, ← ck_wn_s hx hw] at hk
    refine pk_le w x (fun z => absurd z (by omega)) (fun _ => ?_)
    rw [ei]
    refine ck_stretch (by omega) ?_ ?_ e1 e2 (nm_r (nI_1 x) hk)
    · rcases hs with rfl | rfl <;> omega
    · rcases hs with rfl | rfl <;> omega
/-! the columns -/
theorem ck_addColumn {k y w : Nat} (hk : k < 18) (hy : y < 8) (hw : w ≤ 8)
    (H : pos2 (fs, fm, fc, nI w, a1, a2, ck_rg (8 * y) (8 * y + w) (fun j => a3 j + a14 (18 * j + k) * a2 k) a3, a4, a5, a6, a7, a8, a9, a10, a11, a12, a13, a14)) : wpX_addColumn pos2 (fs, fm, fc, nI w, a1, a2, a3, a4, a5, a6, a7, a8, a9, a10, a11, a12, a13, a14) (nI k) (nI (8 * y)) := by
  refine ck_loop (fun n i t => wX_addColumn_2 pos2 (nI k) (nI (8 * y)) fs fm fc (nI w) n (nI (8 * y + i)) a1 a2 t a4 a5 a6 a7 a8 a9 a10 a11 a12 a13 a14) (fun i => ck_rg (8 * y) (8 * y + i) (fun j => a3 j + a14 (18 * j + k) * a2 k) a3) w _ ck_rg_0.symm ?_ ?_
  · intro n
    exact pk_le (8 * y + w) (8 * y + w) (fun _ => H) (fun z => absurd z (by omega)) (nI_add _ _)
  · intro n i hi hh
    have ei : (18 * nI (8 * y + i)) + nI k = nI (18 * (8 * y + i) + k) := ck_ad (ck_ml rfl rfl) rfl
    refine pk_le (8 * y + w) (8 * y + i) (fun z => absurd z (by omega)) (fun _ => And.intro (pk_in (8 * y + i) 64 (by omega)) (And.intro (pk_in _ 1152 (by omega) ei) (And.intro (pk_in k 18 hk) (And.intro (pk_in (8 * y + i) 64 (by omega)) (nm_r ?_ (nm_r (nI_1 (8 * y + i)) hh)))))) (nI_add _ _)
    rw [nI_clamp (by omega), nI_clamp (by omega), pk_cl _ ei (by omega)]
    exact ck_rg_S rfl (by omega) (by rw [ck_rg_out (by omega)])
def ck_co (w : Nat) (g k : Nat → Int32) (n : Nat) (o : Nat → Int32) : Nat → Int32 := fun j => if j % 8 < w ∧ j < 8 * w then ck_s n (fun q => g (18 * j + q) * k q) else o j
theorem ck_co_0 {w : Nat} {g k o : Nat → Int32} (hw : w ≤ 8) (ho : ∀ j, j < 64 → o j = 0) : o = ck_co w g k 0 o := by
  funext j
  show o j = if j % 8 < w ∧ j < 8 * w then 0 else o j
  by_cases h : j % 8 < w ∧ j < 8 * w
  · rw [if_pos h, ho j (by omega)]
  · rw [if_neg h]
def ck_cw (w n t : Nat) (g k o : Nat → Int32) : Nat → Int32 := ck_wr (fun j => decide (j % 8 < w)) (fun j => j) t (ck_co w g k (n + 1) o) (ck_co w g k n o)
theorem ck_cw_s {w n y : Nat} {g k o : Nat → Int32} (hw : w ≤ 8) (hy : y < w) :
    ck_rg (8 * y) (8 * y + w) (fun j => ck_cw w n (8 * y) g k o j + g (18 * j + n) * k n) (ck_cw w n (8 * y) g k o) = ck_cw w n (8 * (y + 1)) g k o := by
  funext j
  by_cases h : 8 * y ≤ j ∧ j < 8 * y + w
  · rw [ck_rg_in h]
    have h8 : j % 8 < w ∧ j < 8 * w := by omega
    unfold ck_cw
    rw [ck_wr_out (fun _ => (show ¬ j < 8 * y by omega)), ck_wr_in (decide_eq_true h8.1) (show j < 8 * (y + 1) by omega)]
    unfold ck_co
    rw [if_pos h8, if_pos h8]
    rfl
  · rw [ck_rg_out h]
    show (if _ ∧ _ then _ else _) = (if _ ∧ _ then _ else _)
    by_cases d : decide (j % 8 < w) = true
    · have d' := of_decide_eq_true d
      by_cases z : j < 8 * y
      · rw [if_pos ⟨d, z⟩, if_pos ⟨d, show j < 8 * (y + 1) by omega⟩]
      · rw [if_neg (fun t => z t.2), if_neg (fun t => absurd t.2 (show ¬ j < 8 * (y + 1) by omega))]
    · rw [if_neg (fun t => d t.1), if_neg (fun t => d t.1)]
theorem ck_cw_e {w n : Nat} {g k o : Nat → Int32} : ck_cw w n (8 * w) g k o = ck_co w g k (n + 1) o := by
  funext j
  by_cases h : j % 8 < w ∧ j < 8 * w
  · exact ck_wr_in (decide_eq_true h.1) h.2
  · unfold ck_cw
    rw [ck_wr_out (fun d z => h ⟨of_decide_eq_true d, z⟩)]
    unfold ck_co
    rw [if_neg h, if_neg h]
theorem ck_mw77 {J : Int32 → Int32 → Int32 → Int32 → Int32 → (Nat → Int32) → (Nat → Int32) → (Nat → Int32) → (Nat → Int32) → (Nat → Int32) → (Nat → Int32) → (Nat → Int32) → (Nat → Int32) → (Nat → Int32) → (Nat → Int32) → (Nat → Int32) → (Nat → Int32) → (Nat → Int32) → (Nat → Int32) → Prop} {w k : Nat} (hw : w ≤ 8) (hk : k < 18)
    (H : J (nI (k + 1)) fs fm fc (nI w) a1 a2 (ck_co w a14 a2 (k + 1) a3) a4 a5 a6 a7 a8 a9 a10 a11 a12 a13 a14) :
    ∃ n, wX_moveByWindows_77 pos2 J (nI k) n 0 fs fm fc (nI w) a1 a2 (ck_co w a14 a2 k a3) a4 a5 a6 a7 a8 a9 a10 a11 a12 a13 a14 := by
  refine ck_loop (fun n y t => wX_moveByWindows_77 pos2 J (nI k) n (nI y) fs fm fc (nI w) a1 a2 t a4 a5 a6 a7 a8 a9 a10 a11 a12 a13 a14) (fun y => ck_cw w k (8 * y) a14 a2 a3) w _ ck_wr_0.symm ?_ ?_
  · intro n
    refine pk_le w w (fun _ => nm_r (nI_1 k) ?_) (fun z => absurd z (by omega))
    show J _ _ _ _ _ _ _ (ck_cw w k (8 * w) a14 a2 a3) _ _ _ _ _ _ _ _ _ _ _
    rw [ck_cw_e]
    exact H
  · intro n y hy hh
    rw [← ck_cw_s hw hy] at hh
    refine pk_le w y (fun z => absurd z (by omega)) (fun _ => ?_)
    rw [show 8 * nI y = nI (8 * y) from ck_ml rfl rfl]
    exact ck_addColumn hk (by omega) hw (nm_r (nI_1 y) hh)
theorem ck_windows {s m w : Nat} (hs : s = 1 ∨ s = 2) (hm : m < 2) (hw : w ≤ 8) (ho : ∀ j, j < 64 → a3 j = 0)
    (H : ∀ o g, (∀ x y, x < w → y < w → o (8 * y + x) = ck_R a2 a1 s m x y) → pos2 (nI s, nI m, fc, nI w, a1, a2, o, a4, a5, a6, a7, a8, a9, a10, a11, a12, a13, g)) : wpX_moveByWindows pos2 (nI s, nI m, fc, nI w, a1, a2, a3, a4, a5, a6, a7, a8, a9, a10, a11, a12, a13, a14) := by
  refine ck_loop (fun n y t => wX_moveByWindows_2 pos2 n (nI y) (nI s) (nI m) fc (nI w) a1 a2 a3 a4 a5 a6 a7 a8 a9 a10 a11 a12 a13 t) (fun y => ck_wn a1 s m w (8 * y) a14) w _ ck_wr_0.symm ?_ ?_
  · intro n
    refine pk_le w w (fun _ => ?_) (fun z => absurd z (by omega))
    refine ck_loop (fun n k t => wX_moveByWindows_69 pos2 n (nI k) (nI s) (nI m) fc (nI w) a1 a2 t a4 a5 a6 a7 a8 a9 a10 a11 a12 a13 (ck_wn a1 s m w (8 * w) a14)) (fun k => ck_co w (ck_wn a1 s m w (8 * w) a14) a2 k a3) 18 _ (ck_co_0 hw ho) ?_ ?_
    · intro n
      refine pk_le 18 18 (fun _ => H _ _ ?_) (fun z => absurd z (by omega))
      intro x y hx hy
      show (if (8 * y + x) % 8 < w ∧ 8 * y + x < 8 * w then _ else _) = _
      rw [if_pos (by omega)]
      refine ck_s_c 18 (fun q hq => ?_)
      show ck_wn a1 s m w (8 * w) a14 (18 * (8 * y + x) + q) * a2 q = _
      rw [ck_wn_in (by omega) (by omega)]
      unfold ck_wv2
      rw [show (18 * (8 * y + x) + q) % 18 = q by omega, show (18 * (8 * y + x) + q) / 18 % 8 = x by omega, show (18 * (8 * y + x) + q) / 18 / 8 = y by omega]
    · intro n k hk hh
      exact pk_le 18 k (fun z => absurd z (by omega)) (fun _ => ck_mw77 hw hk hh)
  · intro n y hy hh
    exact pk_le w y (fun z => absurd z (by omega)) (fun _ => ck_mw12 hs hm hw hy hh)
end
end
section
/-! the first way: tiles -/
section
variable {post : Int32 → Prop} {pos2 : St2 → Prop} {pos3 : Int32 → St2 → Prop} {fs fm fc fw : Int32} {a1 a2 a3 a4 a5 a6 a7 a8 a9 a10 a11 a12 a13 a14 : Nat → Int32}
/-! pure: the short rule in one dimension, then twice -/
def ck_h (a b c d : Int32) : Nat → Int32
  | 0 => a - c
  | 1 => b + c
  | 2 => c - b
  | _ => b - d
def ck_g (a b c : Int32) : Nat → Int32
  | 0 => 2 * a
  | 1 => (a + b) + c
  | 2 => (a - b) + c
  | _ => 2 * c
theorem ck_w1 (a b c d k l m : Int32) : (ck_h a b c d 0 * ck_g k l m 0 + ck_h a b c d 1 * ck_g k l m 1) + ck_h a b c d 2 * ck_g k l m 2 = 2 * ((a * k + b * l) + c * m) := by
  show ((a - c) * (2 * k) + (b + c) * ((k + l) + m)) + (c - b) * ((k - l) + m) = 2 * ((a * k + b * l) + c * m)
  grind
theorem ck_w2 (a b c d k l m : Int32) : (ck_h a b c d 1 * ck_g k l m 1 - ck_h a b c d 2 * ck_g k l m 2) - ck_h a b c d 3 * ck_g k l m 3 = 2 * ((b * k + c * l) + d * m) := by
  show ((b + c) * ((k + l) + m) - (c - b) * ((k - l) + m)) - (b - d) * (2 * m) = 2 * ((b * k + c * l) + d * m)
  grind
theorem ck_w5 (a0 a1 a2 b0 b1 b2 c0 c1 c2 A B C : Int32) (hA : (a0 + a1) + a2 = 2 * A) (hB : (b0 + b1) + b2 = 2 * B) (hC : (c0 + c1) + c2 = 2 * C) : (2 * ((a0 + b0) + c0) + 2 * ((a1 + b1) + c1)) + 2 * ((a2 + b2) + c2) = 4 * ((A + B) + C) := by grind
theorem ck_w6 (a1 a2 a3 b1 b2 b3 c1 c2 c3 A B C : Int32) (hA : (a1 - a2) - a3 = 2 * A) (hB : (b1 - b2) - b3 = 2 * B) (hC : (c1 - c2) - c3 = 2 * C) : (2 * ((a1 + b1) + c1) - 2 * ((a2 + b2) + c2)) - 2 * ((a3 + b3) + c3) = 4 * ((A + B) + C) := by grind
def ck_hv (k : Nat → Int32) (c : Nat) : Nat → Int32 := fun q => ck_g (k (9 * c + 3 * (q / 4))) (k (9 * c + 3 * (q / 4) + 1)) (k (9 * c + 3 * (q / 4) + 2)) (q % 4)
def ck_S4 (k : Nat → Int32) (c : Nat) : Nat → Int32 := fun q => ck_g (ck_hv k c (q % 4)) (ck_hv k c (4 + q % 4)) (ck_hv k c (8 + q % 4)) (q / 4)
def ck_rv (d : Nat → Int32) : Nat → Int32 := fun q => ck_h (d (4 * (q / 4))) (d (4 * (q / 4) + 1)) (d (4 * (q / 4) + 2)) (d (4 * (q / 4) + 3)) (q % 4)
def ck_cv (d : Nat → Int32) : Nat → Int32 := fun q => ck_h (d (q % 4)) (d (4 + q % 4)) (d (8 + q % 4)) (d (12 + q % 4)) (q / 4)
def ck_ev (p : Nat → Int32) : Nat → Int32 := fun q => if q < 4 then (p q + p (4 + q)) + p (8 + q) else (p q - p (4 + q)) - p (8 + q)
/-- the sum of products at offset (i, j) of the piece -/
def ck_dk (d k : Nat → Int32) (c i j : Nat) : Int32 :=
  (((d (4 * j + i) * k (9 * c) + d (4 * j + i + 1) * k (9 * c + 1)) + d (4 * j + i + 2) * k (9 * c + 2)) + ((d (4 * j + i + 4) * k (9 * c + 3) + d (4 * j + i + 5) * k (9 * c + 4)) + d (4 * j + i + 6) * k (9 * c + 5))) + ((d (4 * j + i + 8) * k (9 * c + 6) + d (4 * j + i + 9) * k (9 * c + 7)) + d (4 * j + i + 10) * k (9 * c + 8))
theorem ck_wino {d D1 P k : Nat → Int32} {c : Nat} (h1 : ∀ q, q < 16 → D1 q = ck_rv d q) (h2 : ∀ q, q < 16 → P q = ck_cv D1 q * ck_S4 k c q) :
    ((ck_ev P 0 + ck_ev P 1) + ck_ev P 2 = 4 * ck_dk d k c 0 0 ∧ (ck_ev P 1 - ck_ev P 2) - ck_ev P 3 = 4 * ck_dk d k c 1 0) ∧
    ((ck_ev P 4 + ck_ev P 5) + ck_ev P 6 = 4 * ck_dk d k c 0 1 ∧ (ck_ev P 5 - ck_ev P 6) - ck_ev P 7 = 4 * ck_dk d k c 1 1) := by
  have c0 : ∀ i, i < 4 → ck_ev P i = 2 * ((D1 i * ck_hv k c i + D1 (4 + i) * ck_hv k c (4 + i)) + D1 (8 + i) * ck_hv k c (8 + i)) := by
    intro i hi
    unfold ck_ev
    rw [if_pos hi, h2 i (by omega), h2 (4 + i) (by omega), h2 (8 + i) (by omega)]
    unfold ck_cv ck_S4
    rw [show i % 4 = i by omega, show (4 + i) % 4 = i by omega, show (8 + i) % 4 = i by omega, show i / 4 = 0 by omega, show (4 + i) / 4 = 1 by omega, show (8 + i) / 4 = 2 by omega]
    exact ck_w1 _ _ _ _ _ _ _
  have c1 : ∀ i, i < 4 → ck_ev P (4 + i) = 2 * ((D1 (4 + i) * ck_hv k c i + D1 (8 + i) * ck_hv k c (4 + i)) + D1 (12 + i) * ck_hv k c (8 + i)) := by
    intro i hi
    unfold ck_ev
    rw [if_neg (by omega), show 4 + (4 + i) = 8 + i by omega, show 8 + (4 + i) = 12 + i by omega, h2 (4 + i) (by omega), h2 (8 + i) (by omega), h2 (12 + i) (by omega)]
    unfold ck_cv ck_S4
    rw [show (4 + i) % 4 = i by omega, show (8 + i) % 4 = i by omega, show (12 + i) % 4 = i by omega, show (4 + i) / 4 = 1 by omega, show (8 + i) / 4 = 2 by omega, show (12 + i) / 4 = 3 by omega]
    exact ck_w2 _ _ _ _ _ _ _
  have r : ∀ j j', j < 4 → j' < 3 → (D1 (4 * j) * ck_hv k c (4 * j') + D1 (4 * j + 1) * ck_hv k c (4 * j' + 1)) + D1 (4 * j + 2) * ck_hv k c (4 * j' + 2) = 2 * ((d (4 * j) * k (9 * c + 3 * j') + d (4 * j + 1) * k (9 * c + 3 * j' + 1)) + d (4 * j + 2) * k (9 * c + 3 * j' + 2)) := by
    intro j j' hj hj'
    rw [h1 (4 * j) (by omega), h1 (4 * j + 1) (by omega), h1 (4 * j + 2) (by omega)]
    unfold ck_rv ck_hv
    rw [show 4 * j / 4 = j by omega, show (4 * j + 1) / 4 = j by omega, show (4 * j + 2) / 4 = j by omega, show 4 * j % 4 = 0 by omega, show (4 * j + 1) % 4 = 1 by omega, show (4 * j + 2) % 4 = 2 by omega,
      show 4 * j' / 4 = j' by omega, show (4 * j' + 1) / 4 = j' by omega, show (4 * j' + 2) / 4 = j' by omega, show 4 * j' % 4 = 0 by omega, show (4 * j' + 1) % 4 = 1 by omega, show (4 * j' + 2) % 4 = 2 by omega]
    exact ck_w1 _ _ _ _ _ _ _
  have s : ∀ j j', j < 4 → j' < 3 → (D1 (4 * j + 1) * ck_hv k c (4 * j' + 1) - D1 (4 * j + 2) * ck_hv k c (4 * j' + 2)) - D1 (4 * j + 3) * ck_hv k c (4 * j' + 3) = 2 * ((d (4 * j + 1) * k (9 * c + 3 * j') + d (4 * j + 2) * k (9 * c + 3 * j' + 1)) + d (4 * j + 3) * k (9 * c + 3 * j' + 2)) := by
    intro j j' hj hj'
    rw [h1 (4 * j + 1) (by omega), h1 (4 * j + 2) (by omega), h1 (4 * j + 3) (by omega)]
    unfold ck_rv ck_hv
    rw [show (4 * j + 1) / 4 = j by omega, show (4 * j + 2) / 4 = j by omega, show (4 * j + 3) / 4 = j by omega, show (4 * j + 1) % 4 = 1 by omega, show (4 * j + 2) % 4 = 2 by omega, show (4 * j + 3) % 4 = 3 by omega,
      show (4 * j' + 1) / 4 = j' by omega, show (4 * j' + 2) / 4 = j' by omega, show (4 * j' + 3) / 4 = j' by omega, show (4 * j' + 1) % 4 = 1 by omega, show (4 * j' + 2) % 4 = 2 by omega, show (4 * j' + 3) % 4 = 3 by omega]
    exact ck_w2 _ _ _ _ _ _ _
  refine ⟨⟨?_, ?_⟩, ⟨?_, ?_⟩⟩
  · rw [c0 0 (by omega), c0 1 (by omega), c0 2 (by omega)]
    exact ck_w5 _ _ _ _ _ _ _ _ _ _ _ _ (r 0 0 (by omega) (by omega)) (r 1 1 (by omega) (by omega)) (r 2 2 (by omega) (by omega))
  · rw [c0 1 (by omega), c0 2 (by omega), c0 3 (by omega)]
    exact ck_w6 _ _ _ _ _ _ _ _ _ _ _ _ (s 0 0 (by omega) (by omega)) (s 1 1 (by omega) (by omega)) (s 2 2 (by omega) (by omega))
  · rw [show 4 = 4 + 0 from rfl, show 5 = 4 + 1 from rfl, show 6 = 4 + 2 from rfl, c1 0 (by omega), c1 1 (by omega), c1 2 (by omega)]
    exact ck_w5 _ _ _ _ _ _ _ _ _ _ _ _ (r 1 0 (by omega) (by omega)) (r 2 1 (by omega) (by omega)) (r 3 2 (by omega) (by omega))
  · rw [show 5 = 4 + 1 from rfl, show 6 = 4 + 2 from rfl, show 7 = 4 + 3 from rfl, c1 1 (by omega), c1 2 (by omega), c1 3 (by omega)]
    exact ck_w6 _ _ _ _ _ _ _ _ _ _ _ _ (s 1 0 (by omega) (by omega)) (s 2 1 (by omega) (by omega)) (s 3 2 (by omega) (by omega))
/-! stores by columns of four -/
def ck_c4 (i : Nat) (v f : Nat → Int32) : Nat → Int32 := fun q => if q < 16 ∧ q % 4 < i then v q else f q
theorem ck_c4_0 {v f : Nat → Int32} : f = ck_c4 0 v f := by
  funext q
  exact (if_neg (fun z => absurd z.2 (by omega))).symm
theorem ck_c4_in {i q : Nat} {v f : Nat → Int32} (h : q < 16 ∧ q % 4 < i) : ck_c4 i v f q = v q := if_pos h
theorem ck_c4_out {i q : Nat} {v f : Nat → Int32} (h : ¬ (q < 16 ∧ q % 4 < i)) : ck_c4 i v f q = f q := if_neg h
theorem ck_c4_s {i k0 k1 k2 k3 : Nat} {v f : Nat → Int32} {x0 x1 x2 x3 : Int32} (hi : i < 4) (e0 : k0 = i) (e1 : k1 = 4 + i) (e2 : k2 = 8 + i) (e3 : k3 = 12 + i) (v0 : x0 = v i) (v1 : x1 = v (4 + i)) (v2 : x2 = v (8 + i)) (v3 : x3 = v (12 + i)) :
    upd (upd (upd (upd (ck_c4 i v f) k0 x0) k1 x1) k2 x2) k3 x3 = ck_c4 (i + 1) v f := by
  subst e0 e1 e2 e3 v0 v1 v2 v3
  funext q
  show (if q = 12 + k0 then _ else if q = 8 + k0 then _ else if q = 4 + k0 then _ else if q = k0 then _ else if q < 16 ∧ q % 4 < k0 then _ else _) = if q < 16 ∧ q % 4 < k0 + 1 then _ else _
  by_cases h3 : q = 12 + k0
  · rw [if_pos h3, if_pos (by omega), h3]
  · rw [if_neg h3]
    by_cases h2 : q = 8 + k0
    · rw [if_pos h2, if_pos (by omega), h2]
    · rw [if_neg h2]
      by_cases h1 : q = 4 + k0
      · rw [if_pos h1, if_pos (by omega), h1]
      · rw [if_neg h1]
        by_cases h0 : q = k0
        · rw [if_pos h0, if_pos (by omega), h0]
        · rw [if_neg h0]
          by_cases g : q < 16 ∧ q % 4 < k0
          · rw [if_pos g, if_pos (by omega)]
          · rw [if_neg g, if_neg (by omega)]
def ck_c2 (i : Nat) (v f : Nat → Int32) : Nat → Int32 := fun q => if q < 8 ∧ q % 4 < i then v q else f q
theorem ck_c2_0 {v f : Nat → Int32} : f = ck_c2 0 v f := by
  funext q
  exact (if_neg (fun z => absurd z.2 (by omega))).symm
theorem ck_c2_in {i q : Nat} {v f : Nat → Int32} (h : q < 8 ∧ q % 4 < i) : ck_c2 i v f q = v q := if_pos h
theorem ck_c2_out {i q : Nat} {v f : Nat → Int32} (h : ¬ (q < 8 ∧ q % 4 < i)) : ck_c2 i v f q = f q := if_neg h
theorem ck_c2_s {i k0 k1 : Nat} {v f : Nat → Int32} {x0 x1 : Int32} (hi : i < 4) (e0 : k0 = i) (e1 : k1 = 4 + i) (v0 : x0 = v i) (v1 : x1 = v (4 + i)) : upd (upd (ck_c2 i v f) k0 x0) k1 x1 = ck_c2 (i + 1) v f := by
  subst e0 e1 v0 v1
  funext q
  show (if q = 4 + k0 then _ else if q = k0 then _ else if q < 8 ∧ q % 4 < k0 then _ else _) = if q < 8 ∧ q % 4 < k0 + 1 then _ else _
  by_cases h1 : q = 4 + k0
  · rw [if_pos h1, if_pos (by omega), h1]
  · rw [if_neg h1]
    by_cases h0 : q = k0
    · rw [if_pos h0, if_pos (by omega), h0]
    · rw [if_neg h0]
      by_cases g : q < 8 ∧ q % 4 < k0
      · rw [if_pos g, if_pos (by omega)]
      · rw [if_neg g, if_neg (by omega)]
/-! shapeKernel -/
theorem ck_sk122 (H : pos2 (fs, fm, fc, fw, a1, a2, a3, a4, a5, ck_c4 4 (fun q => ck_g (a5 (q % 4)) (a5 (4 + q % 4)) (a5 (8 + q % 4)) (q / 4)) a6, a7, a8, a9, a10, a11, a12, a13, a14)) : ∃ n, wX_shapeKernel_122 pos2 fs fm fc fw n 0 a1 a2 a3 a4 a5 a6 a7 a8 a9 a10 a11 a12 a13 a14 := by
  refine ck_loop (fun n i t => wX_shapeKernel_122 pos2 fs fm fc fw n (nI i) a1 a2 a3 a4 a5 t a7 a8 a9 a10 a11 a12 a13 a14) (fun i => ck_c4 i (fun q => ck_g (a5 (q % 4)) (a5 (4 + q % 4)) (a5 (8 + q % 4)) (q / 4)) a6) 4 _ ck_c4_0 ?_ ?_
  · intro n
    exact pk_le 4 4 (fun _ => H) (fun z => absurd z (by omega))
  · intro n i hi hh
    have e1 : 4 + nI i = nI (4 + i) := ck_ad rfl rfl
    have e2 : 8 + nI i = nI (8 + i) := ck_ad rfl rfl
    have e3 : 12 + nI i = nI (12 + i) := ck_ad rfl rfl
    have k0 : (nI i).toNatClampNeg = i := nI_clamp (by omega)
    have k1 : (4 + nI i).toNatClampNeg = 4 + i := pk_cl _ e1 (by omega)
    have k2 : (8 + nI i).toNatClampNeg = 8 + i := pk_cl _ e2 (by omega)
    have k3 : (12 + nI i).toNatClampNeg = 12 + i := pk_cl _ e3 (by omega)
    refine pk_le 4 i (fun z => absurd z (by omega)) (fun _ => And.intro (pk_in i 16 (by omega)) <| nm_r (congrArg a5 k0) <| And.intro (pk_in _ 16 (by omega) e1) <| nm_r (congrArg a5 k1) <| And.intro (pk_in _ 16 (by omega) e2) <| nm_r (congrArg a5 k2) <| And.intro (pk_in i 16 (by omega)) <| nm_e <| And.intro (pk_in _ 16 (by omega) e1) <| nm_e <| And.intro (pk_in _ 16 (by omega) e2) <| nm_e <| And.intro (pk_in _ 16 (by omega) e3) <| nm_r ?_ (nm_r (nI_1 i) hh))
    refine ck_c4_s hi k0 k1 k2 k3 ?_ ?_ ?_ ?_
    · rw [show i % 4 = i by omega, show i / 4 = 0 by omega]; rfl
    · rw [show (4 + i) % 4 = i by omega, show (4 + i) / 4 = 1 by omega]; rfl
    · rw [show (8 + i) % 4 = i by omega, show (8 + i) / 4 = 2 by omega]; rfl
    · rw [show (12 + i) % 4 = i by omega, show (12 + i) / 4 = 3 by omega]; rfl
theorem ck_shapeKernel {c : Nat} (hc : c < 2) (H : ∀ h5 h6, (∀ q, q < 16 → h6 q = ck_S4 a2 c q) → pos2 (fs, fm, fc, fw, a1, a2, a3, a4, h5, h6, a7, a8, a9, a10, a11, a12, a13, a14)) : wpX_shapeKernel pos2 (fs, fm, fc, fw, a1, a2, a3, a4, a5, a6, a7, a8, a9, a10, a11, a12, a13, a14) (nI c) := by
  refine ck_loop (fun n j t => wX_shapeKernel_2 pos2 (nI c) fs fm fc fw n (nI j) a1 a2 a3 a4 t a6 a7 a8 a9 a10 a11 a12 a13 a14) (fun j => ck_rg 0 (4 * j) (ck_hv a2 c) a5) 3 _ ck_rg_0.symm ?_ ?_
  · intro n
    refine pk_le 3 3 (fun _ => ck_sk122 (H _ _ ?_)) (fun z => absurd z (by omega))
    intro q hq
    rw [ck_c4_in (by omega)]
    unfold ck_S4
    rw [ck_rg_in (by omega), ck_rg_in (by omega), ck_rg_in (by omega)]
  · intro n j hj hh
    have b0 : 9 * nI c + 3 * nI j = nI (9 * c + 3 * j) := ck_ad (ck_ml rfl rfl) (ck_ml rfl rfl)
    have b1 : (9 * nI c + 3 * nI j) + 1 = nI (9 * c + 3 * j + 1) := ck_ad b0 rfl
    have b2 : (9 * nI c + 3 * nI j) + 2 = nI (9 * c + 3 * j + 2) := ck_ad b0 rfl
    have e0 : 4 * nI j = nI (4 * j) := ck_ml rfl rfl
    have e1 : 4 * nI j + 1 = nI (4 * j + 1) := ck_ad e0 rfl
    have e2 : 4 * nI j + 2 = nI (4 * j + 2) := ck_ad e0 rfl
    have e3 : 4 * nI j + 3 = nI (4 * j + 3) := ck_ad e0 rfl
    refine pk_le 3 j (fun z => absurd z (by omega)) (fun _ => And.intro (pk_in _ 18 (by omega) b0) (nm_r (congrArg a2 (pk_cl _ b0 (by omega))) (And.intro (pk_in _ 18 (by omega) b1) (nm_r (congrArg a2 (pk_cl _ b1 (by omega))) (And.intro (pk_in _ 18 (by omega) b2) (nm_r (congrArg a2 (pk_cl _ b2 (by omega))) (And.intro (pk_in _ 16 (by omega) e0) (nm_r (ck_rg_S (pk_cl _ e0 (by omega)) (by omega) ?_) (And.intro (pk_in _ 16 (by omega) e1) (nm_r (ck_rg_S (pk_cl _ e1 (by omega)) (by omega) ?_) (And.intro (pk_in _ 16 (by omega) e2) (nm_r (ck_rg_S (pk_cl _ e2 (by omega)) (by omega) ?_) (And.intro (pk_in _ 16 (by omega) e3) (nm_r (ck_rg_S (pk_cl _ e3 (by omega)) (by omega) ?_) (nm_r (nI_1 j) hh)))))))))))))))
    · unfold ck_hv
      rw [show 4 * j / 4 = j by omega, show 4 * j % 4 = 0 by omega]; rfl
    · unfold ck_hv
      rw [show (4 * j + 1) / 4 = j by omega, show (4 * j + 1) % 4 = 1 by omega]; rfl
    · unfold ck_hv
      rw [show (4 * j + 2) / 4 = j by omega, show (4 * j + 2) % 4 = 2 by omega]; rfl
    · unfold ck_hv
      rw [show (4 * j + 3) / 4 = j by omega, show (4 * j + 3) % 4 = 3 by omega]; rfl
/-! shapeFour -/
def ck_s4 (a : Nat → Int32) (f t : Nat) : Nat → Int32 := upd (upd (upd (upd a f (a f - a (f + 2 * t))) (f + t) (a (f + t) + a (f + 2 * t))) (f + 2 * t) (a (f + 2 * t) - a (f + t))) (f + 3 * t) (a (f + t) - a (f + 3 * t))
theorem ck_shapeFour {f t : Nat} {ff : Int32} (ef : ff = nI f) (ht : t < 16) (hf : f + 3 * t < 16) (H : pos2 (fs, fm, fc, fw, a1, a2, a3, ck_s4 a4 f t, a5, a6, a7, a8, a9, a10, a11, a12, a13, a14)) : wpX_shapeFour pos2 (fs, fm, fc, fw, a1, a2, a3, a4, a5, a6, a7, a8, a9, a10, a11, a12, a13, a14) ff (nI t) := by
  subst ef
  have e1 : nI f + nI t = nI (f + t) := nI_add _ _
  have e2 : nI f + 2 * nI t = nI (f + 2 * t) := ck_ad rfl (ck_ml rfl rfl)
  have e3 : nI f + 3 * nI t = nI (f + 3 * t) := ck_ad rfl (ck_ml rfl rfl)
  have k0 : (nI f).toNatClampNeg = f := nI_clamp (by omega)
  have k1 : (nI f + nI t).toNatClampNeg = f + t := pk_cl _ e1 (by omega)
  have k2 : (nI f + 2 * nI t).toNatClampNeg = f + 2 * t := pk_cl _ e2 (by omega)
  have k3 : (nI f + 3 * nI t).toNatClampNeg = f + 3 * t := pk_cl _ e3 (by omega)
  exact And.intro (pk_in f 16 (by omega)) (nm_r (congrArg a4 k0) (And.intro (pk_in _ 16 (by omega) e1) (nm_r (congrArg a4 k1) (And.intro (pk_in _ 16 (by omega) e2) (nm_r (congrArg a4 k2) (And.intro (pk_in _ 16 (by omega) e3) (nm_r (congrArg a4 k3) (And.intro (pk_in f 16 (by omega)) (nm_r (ck_ue k0 rfl) (And.intro (pk_in _ 16 (by omega) e1) (nm_r (ck_ue k1 rfl) (And.intro (pk_in _ 16 (by omega) e2) (nm_r (ck_ue k2 rfl) (And.intro (pk_in _ 16 (by omega) e3) (nm_r (ck_ue k3 rfl) H)))))))))))))))
end
end
section
/-! addTile, moveByTiles -/
section
variable {post : Int32 → Prop} {pos2 : St2 → Prop} {pos3 : Int32 → St2 → Prop} {fs fm fc fw : Int32} {a1 a2 a3 a4 a5 a6 a7 a8 a9 a10 a11 a12 a13 a14 : Nat → Int32}
theorem ck_s_ab {f : Nat → Int32} (a b : Nat) : ck_s (a + b) f = ck_s a f + ck_s b (fun t => f (a + t)) := by
  induction b with
  | zero => exact (Int32.add_zero _).symm
  | succ b ih =>
    show ck_s (a + b) f + f (a + b) = ck_s a f + (ck_s b (fun t => f (a + t)) + f (a + b))
    rw [ih, Int32.add_assoc]
/-! the last loop: four results -/
def ck_A2 (o : Nat → Int32) (x y : Nat) (u v : Int32) : Nat → Int32 := upd (upd o (8 * y + x) (o (8 * y + x) + u)) (8 * y + (x + 1)) (upd o (8 * y + x) (o (8 * y + x) + u) (8 * y + (x + 1)) + v)
def ck_A4 (e o : Nat → Int32) (x y : Nat) : Nat → (Nat → Int32)
  | 0 => o
  | j + 1 => ck_A2 (ck_A4 e o x y j) x (y + j) (((e (4 * j) + e (4 * j + 1)) + e (4 * j + 2)) / 4) (((e (4 * j + 1) - e (4 * j + 2)) - e (4 * j + 3)) / 4)
theorem ck_t250 {x y w : Nat} (hx : x + 1 < w) (hy : y + 1 < w) (hw : w ≤ 8) (H : pos2 (fs, fm, fc, nI w, a1, a2, ck_A4 a7 a3 x y 2, a4, a5, a6, a7, a8, a9, a10, a11, a12, a13, a14)) : ∃ n, wX_addTile_250 pos2 (nI x) (nI y) n 0 fs fm fc (nI w) a1 a2 a3 a4 a5 a6 a7 a8 a9 a10 a11 a12 a13 a14 := by
  refine ck_loop (fun n j t => wX_addTile_250 pos2 (nI x) (nI y) n (nI j) fs fm fc (nI w) a1 a2 t a4 a5 a6 a7 a8 a9 a10 a11 a12 a13 a14) (fun j => ck_A4 a7 a3 x y j) 2 _ rfl ?_ ?_
  · intro n
    exact pk_le 2 2 (fun _ => H) (fun z => absurd z (by omega))
  · intro n j hj hh
    have e0 : 4 * nI j = nI (4 * j) := ck_ml rfl rfl
    have e1 : 4 * nI j + 1 = nI (4 * j + 1) := ck_ad e0 rfl
    have e2 : 4 * nI j + 2 = nI (4 * j + 2) := ck_ad e0 rfl
    have e3 : 4 * nI j + 3 = nI (4 * j + 3) := ck_ad e0 rfl
    have k0 : (4 * nI j).toNatClampNeg = 4 * j := pk_cl _ e0 (by omega)
    have k1 : (4 * nI j + 1).toNatClampNeg = 4 * j + 1 := pk_cl _ e1 (by omega)
    have k2 : (4 * nI j + 2).toNatClampNeg = 4 * j + 2 := pk_cl _ e2 (by omega)
    have k3 : (4 * nI j + 3).toNatClampNeg = 4 * j + 3 := pk_cl _ e3 (by omega)
    have i0 := pk_in (4 * j) 16 (by omega) e0
    have i1 := pk_in (4 * j + 1) 16 (by omega) e1
    have i2 := pk_in (4 * j + 2) 16 (by omega) e2
    have i3 := pk_in (4 * j + 3) 16 (by omega) e3
    refine pk_le 2 j (fun z => absurd z (by omega)) (fun _ => And.intro i0 <| And.intro i1 <| And.intro i2 <| nm_r (e' := (a7 (4 * j) + a7 (4 * j + 1)) + a7 (4 * j + 2)) ?_ <| And.intro i1 <| And.intro i2 <| And.intro i3 <| nm_r (e' := (a7 (4 * j + 1) - a7 (4 * j + 2)) - a7 (4 * j + 3)) ?_ <| And.intro (by decide) <| ck_add rfl (nI_add y j) (by omega) (by omega) hw <| And.intro (by decide) <| ck_add (nI_1 x) (nI_add y j) (by omega) (by omega) hw (nm_r (nI_1 j) hh))
    · rw [k0, k1, k2]
    · rw [k1, k2, k3]
theorem ck_t152 {x y w : Nat} (hx : x + 1 < w) (hy : y + 1 < w) (hw : w ≤ 8) (H : pos2 (fs, fm, fc, nI w, a1, a2, ck_A4 (ck_c2 4 (ck_ev a7) a7) a3 x y 2, a4, a5, a6, ck_c2 4 (ck_ev a7) a7, a8, a9, a10, a11, a12, a13, a14)) : ∃ n, wX_addTile_152 pos2 (nI x) (nI y) fs fm fc (nI w) n 0 a1 a2 a3 a4 a5 a6 a7 a8 a9 a10 a11 a12 a13 a14 := by
  refine ck_loop (fun n i t => wX_addTile_152 pos2 (nI x) (nI y) fs fm fc (nI w) n (nI i) a1 a2 a3 a4 a5 a6 t a8 a9 a10 a11 a12 a13 a14) (fun i => ck_c2 i (ck_ev a7) a7) 4 _ ck_c2_0 ?_ ?_
  · intro n
    exact pk_le 4 4 (fun _ => ck_t250 hx hy hw H) (fun z => absurd z (by omega))
  · intro n i hi hh
    have e1 : 4 + nI i = nI (4 + i) := ck_ad rfl rfl
    have e2 : 8 + nI i = nI (8 + i) := ck_ad rfl rfl
    have e3 : 12 + nI i = nI (12 + i) := ck_ad rfl rfl
    have k0 : (nI i).toNatClampNeg = i := nI_clamp (by omega)
    have k1 : (4 + nI i).toNatClampNeg = 4 + i := pk_cl _ e1 (by omega)
    have k2 : (8 + nI i).toNatClampNeg = 8 + i := pk_cl _ e2 (by omega)
    have k3 : (12 + nI i).toNatClampNeg = 12 + i := pk_cl _ e3 (by omega)
    have i0 : vp_in (nI i) 16 := pk_in i 16 (by omega)
    have i1 := pk_in (4 + i) 16 (by omega) e1
    have i2 := pk_in (8 + i) 16 (by omega) e2
    have i3 := pk_in (12 + i) 16 (by omega) e3
    refine pk_le 4 i (fun z => absurd z (by omega)) (fun _ => And.intro i0 (And.intro i1 (And.intro i2 (nm_r (e' := ck_ev a7 i) ?_ (And.intro i1 (And.intro i2 (And.intro i3 (nm_r (e' := ck_ev a7 (4 + i)) ?_ (And.intro i0 (nm_e (And.intro i1 (nm_r (ck_c2_s hi k0 k1 rfl rfl) (nm_r (nI_1 i) hh)))))))))))))
    · rw [k0, k1, k2, ck_c2_out (by omega), ck_c2_out (by omega), ck_c2_out (by omega)]
      unfold ck_ev
      rw [if_pos hi]
    · rw [k1, k2, k3, ck_c2_out (by omega), ck_c2_out (by omega), ck_c2_out (by omega)]
      unfold ck_ev
      rw [if_neg (by omega), show 4 + (4 + i) = 8 + i by omega, show 8 + (4 + i) = 12 + i by omega]
/-- what the tile's results are made of: the products by places -/
def ck_P7 (d s a : Nat → Int32) : Nat → Int32 := ck_rg 0 16 (fun k => d k * s k) a
theorem ck_t114 {x y w : Nat} (hx : x + 1 < w) (hy : y + 1 < w) (hw : w ≤ 8) (H : ∀ p7, pos2 (fs, fm, fc, nI w, a1, a2, ck_A4 (ck_c2 4 (ck_ev (ck_P7 a4 a6 a7)) (ck_P7 a4 a6 a7)) a3 x y 2, a4, a5, a6, p7, a8, a9, a10, a11, a12, a13, a14)) : ∃ n, wX_addTile_114 pos2 (nI x) (nI y) fs fm fc (nI w) n 0 a1 a2 a3 a4 a5 a6 a7 a8 a9 a10 a11 a12 a13 a14 := by
  refine ck_loop (fun n k t => wX_addTile_114 pos2 (nI x) (nI y) fs fm fc (nI w) n (nI k) a1 a2 a3 a4 a5 a6 t a8 a9 a10 a11 a12 a13 a14) (fun k => ck_rg 0 k (fun k => a4 k * a6 k) a7) 16 _ ck_rg_0.symm ?_ ?_
  · intro n
    exact pk_le 16 16 (fun _ => ck_t152 hx hy hw (H _)) (fun z => absurd z (by omega))
  · intro n k hk hh
    have k0 : (nI k).toNatClampNeg = k := nI_clamp (by omega)
    have i0 : vp_in (nI k) 16 := pk_in k 16 hk
    exact pk_le 16 k (fun z => absurd z (by omega)) (fun _ => And.intro i0 (And.intro i0 (And.intro i0 (nm_r (ck_rg_S k0 (by omega) (by rw [k0])) (nm_r (nI_1 k) hh)))))
theorem ck_s4_row {d : Nat → Int32} {j : Nat} : ck_s4 (ck_rg 0 (4 * j) (ck_rv d) d) (4 * j) 1 = ck_rg 0 (4 * (j + 1)) (ck_rv d) d := by
  unfold ck_s4
  rw [ck_rg_out (by omega), ck_rg_out (by omega), ck_rg_out (by omega), ck_rg_out (by omega)]
  rw [ck_rg_S rfl (by omega), ck_rg_S (by omega) (by omega), ck_rg_S (by omega) (by omega), ck_rg_S (by omega) (by omega)]
  · rfl
  · unfold ck_rv
    rw [show (4 * j + 1 + 1 + 1) / 4 = j by omega, show (4 * j + 1 + 1 + 1) % 4 = 3 by omega]; rfl
  · unfold ck_rv
    rw [show (4 * j + 1 + 1) / 4 = j by omega, show (4 * j + 1 + 1) % 4 = 2 by omega]; rfl
  · unfold ck_rv
    rw [show (4 * j + 1) / 4 = j by omega, show (4 * j + 1) % 4 = 1 by omega]; rfl
  · unfold ck_rv
    rw [show 4 * j / 4 = j by omega, show 4 * j % 4 = 0 by omega]; rfl
theorem ck_s4_col {d : Nat → Int32} {i : Nat} (hi : i < 4) : ck_s4 (ck_c4 i (ck_cv d) d) i 4 = ck_c4 (i + 1) (ck_cv d) d := by
  unfold ck_s4
  rw [ck_c4_out (q := i) (by omega), ck_c4_out (q := i + 4) (by omega), ck_c4_out (q := i + 2 * 4) (by omega), ck_c4_out (q := i + 3 * 4) (by omega)]
  refine ck_c4_s hi rfl (by omega) (by omega) (by omega) ?_ ?_ ?_ ?_
  · unfold ck_cv
    rw [show i % 4 = i by omega, show i / 4 = 0 by omega, show i + 2 * 4 = 8 + i by omega]; rfl
  · unfold ck_cv
    rw [show (4 + i) % 4 = i by omega, show (4 + i) / 4 = 1 by omega, show i + 2 * 4 = 8 + i by omega, show i + 4 = 4 + i by omega]; rfl
  · unfold ck_cv
    rw [show (8 + i) % 4 = i by omega, show (8 + i) / 4 = 2 by omega, show i + 2 * 4 = 8 + i by omega, show i + 4 = 4 + i by omega]; rfl
  · unfold ck_cv
    rw [show (12 + i) % 4 = i by omega, show (12 + i) / 4 = 3 by omega, show i + 3 * 4 = 12 + i by omega, show i + 4 = 4 + i by omega]; rfl
/-- after the two shapings -/
def ck_D2 (d : Nat → Int32) : Nat → Int32 := ck_c4 4 (ck_cv (ck_rg 0 16 (ck_rv d) d)) (ck_rg 0 16 (ck_rv d) d)
theorem ck_t92 {x y w : Nat} (hx : x + 1 < w) (hy : y + 1 < w) (hw : w ≤ 8) (H : ∀ p7, pos2 (fs, fm, fc, nI w, a1, a2, ck_A4 (ck_c2 4 (ck_ev (ck_P7 (ck_c4 4 (ck_cv a4) a4) a6 a7)) (ck_P7 (ck_c4 4 (ck_cv a4) a4) a6 a7)) a3 x y 2, ck_c4 4 (ck_cv a4) a4, a5, a6, p7, a8, a9, a10, a11, a12, a13, a14)) : ∃ n, wX_addTile_92 pos2 (nI x) (nI y) n 0 fs fm fc (nI w) a1 a2 a3 a4 a5 a6 a7 a8 a9 a10 a11 a12 a13 a14 := by
  refine ck_loop (fun n i t => wX_addTile_92 pos2 (nI x) (nI y) n (nI i) fs fm fc (nI w) a1 a2 a3 t a5 a6 a7 a8 a9 a10 a11 a12 a13 a14) (fun i => ck_c4 i (ck_cv a4) a4) 4 _ ck_c4_0 ?_ ?_
  · intro n
    exact pk_le 4 4 (fun _ => ck_t114 hx hy hw H) (fun z => absurd z (by omega))
  · intro n i hi hh
    rw [← ck_s4_col hi] at hh
    exact pk_le 4 i (fun z => absurd z (by omega)) (fun _ => ck_shapeFour (t := 4) rfl (by omega) (by omega) (nm_r (nI_1 i) hh))
theorem ck_t68 {x y w : Nat} (hx : x + 1 < w) (hy : y + 1 < w) (hw : w ≤ 8) (H : ∀ p7, pos2 (fs, fm, fc, nI w, a1, a2, ck_A4 (ck_c2 4 (ck_ev (ck_P7 (ck_D2 a4) a6 a7)) (ck_P7 (ck_D2 a4) a6 a7)) a3 x y 2, ck_D2 a4, a5, a6, p7, a8, a9, a10, a11, a12, a13, a14)) : ∃ n, wX_addTile_68 pos2 (nI x) (nI y) n 0 fs fm fc (nI w) a1 a2 a3 a4 a5 a6 a7 a8 a9 a10 a11 a12 a13 a14 := by
  refine ck_loop (fun n i t => wX_addTile_68 pos2 (nI x) (nI y) n (nI i) fs fm fc (nI w) a1 a2 a3 t a5 a6 a7 a8 a9 a10 a11 a12 a13 a14) (fun i => ck_rg 0 (4 * i) (ck_rv a4) a4) 4 _ ck_rg_0.symm ?_ ?_
  · intro n
    exact pk_le 4 4 (fun _ => ck_t92 hx hy hw H) (fun z => absurd z (by omega))
  · intro n i hi hh
    rw [← ck_s4_row] at hh
    exact pk_le 4 i (fun z => absurd z (by omega)) (fun _ => ck_shapeFour (f := 4 * i) (t := 1) (ck_ml rfl rfl) (by omega) (by omega) (nm_r (nI_1 i) hh))
/-- the piece of the picture -/
def ck_dv (p : Nat → Int32) (m c x y : Nat) : Nat → Int32 := fun q => ck_at p c (((x : Int) + ((q % 4 : Nat) : Int)) - (m : Int)) (((y : Int) + ((q / 4 : Nat) : Int)) - (m : Int))
theorem ck_t12 {J : Int32 → (Nat → Int32) → (Nat → Int32) → (Nat → Int32) → (Nat → Int32) → (Nat → Int32) → (Nat → Int32) → (Nat → Int32) → (Nat → Int32) → (Nat → Int32) → (Nat → Int32) → (Nat → Int32) → (Nat → Int32) → (Nat → Int32) → (Nat → Int32) → Prop} {m c x y j : Nat} (hm : m < 2) (hc : c < 2) (hx : x < 8) (hy : y < 8) (hj : j < 4) (H : J (nI (j + 1)) a1 a2 a3 (ck_rg 0 (4 * j + 4) (ck_dv a1 m c x y) a4) a5 a6 a7 a8 a9 a10 a11 a12 a13 a14) :
    ∃ n, wX_addTile_12 pos2 J (nI c) (nI x) (nI y) (nI j) fs (nI m) fc fw n 0 a1 a2 a3 (ck_rg 0 (4 * j) (ck_dv a1 m c x y) a4) a5 a6 a7 a8 a9 a10 a11 a12 a13 a14 := by
  refine ck_loop (fun n i t => wX_addTile_12 pos2 J (nI c) (nI x) (nI y) (nI j) fs (nI m) fc fw n (nI i) a1 a2 a3 t a5 a6 a7 a8 a9 a10 a11 a12 a13 a14) (fun i => ck_rg 0 (4 * j + i) (ck_dv a1 m c x y) a4) 4 _ rfl ?_ ?_
  · intro n
    exact pk_le 4 4 (fun _ => nm_r (nI_1 j) H) (fun z => absurd z (by omega))
  · intro n i hi hh
    have e1 : (nI x + nI i) - nI m = ck_i (((x : Int) + (i : Int)) - (m : Int)) := ck_sbI (ck_adI (ck_iN x) (ck_iN i)) (ck_iN m)
    have e2 : (nI y + nI j) - nI m = ck_i (((y : Int) + (j : Int)) - (m : Int)) := ck_sbI (ck_adI (ck_iN y) (ck_iN j)) (ck_iN m)
    have ei : 4 * nI j + nI i = nI (4 * j + i) := ck_ad (ck_ml rfl rfl) rfl
    refine pk_le 4 i (fun z => absurd z (by omega)) (fun _ => ck_wat hc (by omega) (by omega) e1 e2 (And.intro (pk_in _ 16 (by omega) ei) (nm_r (ck_rg_S (pk_cl _ ei (by omega)) (by omega) ?_) (nm_r (nI_1 i) hh))))
    unfold ck_dv
    rw [show (4 * j + i) % 4 = i by omega, show (4 * j + i) / 4 = j by omega]
/-- the tile's results added -/
def ck_ta (v : Nat → Int32) (x y : Nat) (o : Nat → Int32) : Nat → Int32 := fun q => if (q / 8 = y ∨ q / 8 = y + 1) ∧ (q % 8 = x ∨ q % 8 = x + 1) then o q + v q else o q
theorem ck_A4_ta {e o v : Nat → Int32} {x y : Nat} (hx : x + 1 < 8)
    (h0 : ((e 0 + e 1) + e 2) / 4 = v (8 * y + x)) (h1 : ((e 1 - e 2) - e 3) / 4 = v (8 * y + (x + 1))) (h2 : ((e 4 + e 5) + e 6) / 4 = v (8 * (y + 1) + x)) (h3 : ((e 5 - e 6) - e 7) / 4 = v (8 * (y + 1) + (x + 1))) :
    ck_A4 e o x y 2 = ck_ta v x y o := by
  show ck_A2 (ck_A2 o x (y + 0) (((e 0 + e 1) + e 2) / 4) (((e 1 - e 2) - e 3) / 4)) x (y + 1) (((e 4 + e 5) + e 6) / 4) (((e 5 - e 6) - e 7) / 4) = _
  rw [h0, h1, h2, h3]
  funext q
  unfold ck_A2 ck_ta
  by_cases c3 : q = 8 * (y + 1) + (x + 1)
  · subst c3
    rw [if_pos (by omega), pk_us, pk_un (by omega), pk_un (by omega), pk_un (by omega)]
  · rw [pk_un c3]
    by_cases c2 : q = 8 * (y + 1) + x
    · subst c2
      rw [if_pos (by omega), pk_us, pk_un (by omega), pk_un (by omega)]
    · rw [pk_un c2]
      by_cases c1 : q = 8 * (y + 0) + (x + 1)
      · subst c1
        rw [if_pos (by omega), pk_us, pk_un (by omega)]
        rfl
      · rw [pk_un c1]
        by_cases c0 : q = 8 * (y + 0) + x
        · subst c0
          rw [if_pos (by omega), pk_us]
          rfl
        · rw [pk_un c0, if_neg (by omega)]
end
end
section
/-! addTile's sum; moveByTiles -/
section
variable {post : Int32 → Prop} {pos2 : St2 → Prop} {pos3 : Int32 → St2 → Prop} {fs fm fc fw : Int32} {a1 a2 a3 a4 a5 a6 a7 a8 a9 a10 a11 a12 a13 a14 : Nat → Int32}
theorem ck_dk_s {d k : Nat → Int32} {c i j : Nat} : ck_dk d k c i j = ck_s 9 (fun t => d (4 * (j + t / 3) + (i + t % 3)) * k (9 * c + t)) := by
  show _ = (((((((((0 + d (4 * (j + 0 / 3) + (i + 0 % 3)) * k (9 * c + 0)) + d (4 * (j + 1 / 3) + (i + 1 % 3)) * k (9 * c + 1)) + d (4 * (j + 2 / 3) + (i + 2 % 3)) * k (9 * c + 2)) + d (4 * (j + 3 / 3) + (i + 3 % 3)) * k (9 * c + 3)) + d (4 * (j + 4 / 3) + (i + 4 % 3)) * k (9 * c + 4)) + d (4 * (j + 5 / 3) + (i + 5 % 3)) * k (9 * c + 5)) + d (4 * (j + 6 / 3) + (i + 6 % 3)) * k (9 * c + 6)) + d (4 * (j + 7 / 3) + (i + 7 % 3)) * k (9 * c + 7)) + d (4 * (j + 8 / 3) + (i + 8 % 3)) * k (9 * c + 8))
  rw [show 4 * (j + 0 / 3) + (i + 0 % 3) = 4 * j + i + 0 by omega, show 4 * (j + 1 / 3) + (i + 1 % 3) = 4 * j + i + 1 by omega, show 4 * (j + 2 / 3) + (i + 2 % 3) = 4 * j + i + 2 by omega, show 4 * (j + 3 / 3) + (i + 3 % 3) = 4 * j + i + 4 by omega, show 4 * (j + 4 / 3) + (i + 4 % 3) = 4 * j + i + 5 by omega, show 4 * (j + 5 / 3) + (i + 5 % 3) = 4 * j + i + 6 by omega, show 4 * (j + 6 / 3) + (i + 6 % 3) = 4 * j + i + 8 by omega, show 4 * (j + 7 / 3) + (i + 7 % 3) = 4 * j + i + 9 by omega, show 4 * (j + 8 / 3) + (i + 8 % 3) = 4 * j + i + 10 by omega, Int32.zero_add]
  unfold ck_dk
  simp only [Int32.add_assoc, Nat.add_zero]
def ck_tm (k p : Nat → Int32) (s m x y q : Nat) : Int32 := ck_at p (q / 9) ((s : Int) * (x : Int) - (m : Int) + ((q % 9 % 3 : Nat) : Int)) ((s : Int) * (y : Int) - (m : Int) + ((q % 9 / 3 : Nat) : Int)) * k q
theorem ck_R_tm (k p : Nat → Int32) (s m x y : Nat) : ck_R k p s m x y = ck_s 18 (ck_tm k p s m x y) := rfl
def ck_cf (k p : Nat → Int32) (m c : Nat) : Nat → Int32 := fun q => ck_s 9 (fun t => ck_tm k p 1 m (q % 8) (q / 8) (9 * c + t))
theorem ck_at_bd {p : Nat → Int32} {c : Nat} {x y : Int} (hp : ∀ q, q < 128 → ck_bd (p q) 20) (hc : c < 2) : ck_bd (ck_at p c x y) 20 := by
  by_cases h : 0 ≤ x ∧ x < 8 ∧ 0 ≤ y ∧ y < 8
  · obtain ⟨X, rfl⟩ : ∃ X : Nat, x = X := ⟨x.toNat, by omega⟩
    obtain ⟨Y, rfl⟩ : ∃ Y : Nat, y = Y := ⟨y.toNat, by omega⟩
    rw [ck_at_p (by omega)]
    exact hp _ (by omega)
  · rw [ck_at_n h]
    exact ck_bd_0 _
theorem ck_tm_bd {k p : Nat → Int32} {s m x y q : Nat} (hk : ∀ q, q < 18 → ck_bd (k q) 9) (hp : ∀ q, q < 128 → ck_bd (p q) 20) (hq : q < 18) : ck_bd (ck_tm k p s m x y q) (20 * 9) :=
  ck_bd_m (ck_at_bd hp (by omega)) (hk q hq) (by decide)
theorem ck_cf_bd {k p : Nat → Int32} {m c q : Nat} (hk : ∀ q, q < 18 → ck_bd (k q) 9) (hp : ∀ q, q < 128 → ck_bd (p q) 20) (hc : c < 2) : ck_bd (ck_cf k p m c q) (9 * (20 * 9)) :=
  (ck_s_bd 9 (fun t ht => ck_tm_bd hk hp (by omega)) (by decide)).1
theorem ck_dk_cf {k p : Nat → Int32} {m c x y i j : Nat} (hx : x + i < 8) (hi : i < 2) (hj : j < 2) : ck_dk (ck_dv p m c x y) k c i j = ck_cf k p m c (8 * (y + j) + (x + i)) := by
  rw [ck_dk_s]
  refine ck_s_c 9 (fun t ht => ?_)
  have h3 : t / 3 < 3 := by omega
  have h4 : t % 3 < 3 := by omega
  unfold ck_tm ck_dv
  rw [show (8 * (y + j) + (x + i)) % 8 = x + i by omega, show (8 * (y + j) + (x + i)) / 8 = y + j by omega, show (9 * c + t) / 9 = c by omega, show (9 * c + t) % 9 = t by omega,
    show (4 * (j + t / 3) + (i + t % 3)) % 4 = i + t % 3 by omega, show (4 * (j + t / 3) + (i + t % 3)) / 4 = j + t / 3 by omega]
  rw [show (x : Int) + ((i + t % 3 : Nat) : Int) - (m : Int) = ((1 : Nat) : Int) * ((x + i : Nat) : Int) - (m : Int) + ((t % 3 : Nat) : Int) by omega,
    show (y : Int) + ((j + t / 3 : Nat) : Int) - (m : Int) = ((1 : Nat) : Int) * ((y + j : Nat) : Int) - (m : Int) + ((t / 3 : Nat) : Int) by omega]
theorem ck_rv_c {d e : Nat → Int32} (h : ∀ q, q < 16 → d q = e q) {q : Nat} (hq : q < 16) : ck_rv d q = ck_rv e q := by
  unfold ck_rv
  rw [h _ (by omega), h _ (by omega), h _ (by omega), h _ (by omega)]
/-- the four results of a tile -/
theorem ck_tile4 {k p a4 a6 a7 o : Nat → Int32} {m c x y : Nat} (hx : x + 1 < 8) (hc : c < 2) (hk : ∀ q, q < 18 → ck_bd (k q) 9) (hp : ∀ q, q < 128 → ck_bd (p q) 20) (h6 : ∀ q, q < 16 → a6 q = ck_S4 k c q) :
    ck_A4 (ck_c2 4 (ck_ev (ck_P7 (ck_D2 (ck_rg 0 16 (ck_dv p m c x y) a4)) a6 a7)) (ck_P7 (ck_D2 (ck_rg 0 16 (ck_dv p m c x y) a4)) a6 a7)) o x y 2 = ck_ta (ck_cf k p m c) x y o := by
  have w := ck_wino (d := ck_dv p m c x y) (D1 := ck_rg 0 16 (ck_rv (ck_rg 0 16 (ck_dv p m c x y) a4)) (ck_rg 0 16 (ck_dv p m c x y) a4)) (P := ck_P7 (ck_D2 (ck_rg 0 16 (ck_dv p m c x y) a4)) a6 a7) (k := k) (c := c)
    (fun q hq => by
      rw [ck_rg_in ⟨by omega, hq⟩]
      exact ck_rv_c (fun q hq => ck_rg_in ⟨by omega, hq⟩) hq)
    (fun q hq => by
      unfold ck_P7
      rw [ck_rg_in ⟨by omega, hq⟩, h6 q hq]
      unfold ck_D2
      rw [ck_c4_in (by omega)])
  generalize ck_P7 (ck_D2 (ck_rg 0 16 (ck_dv p m c x y) a4)) a6 a7 = P at *
  obtain ⟨⟨w0, w1⟩, ⟨w2, w3⟩⟩ := w
  have e : ∀ q, q < 8 → ck_c2 4 (ck_ev P) P q = ck_ev P q := fun q hq => ck_c2_in (by omega)
  refine ck_A4_ta hx ?_ ?_ ?_ ?_
  · rw [e 0 (by omega), e 1 (by omega), e 2 (by omega), w0, ck_dk_cf (by omega) (by omega) (by omega)]
    exact ck_div4 (ck_cf_bd hk hp hc) (by decide)
  · rw [e 1 (by omega), e 2 (by omega), e 3 (by omega), w1, ck_dk_cf (by omega) (by omega) (by omega)]
    exact ck_div4 (ck_cf_bd hk hp hc) (by decide)
  · rw [e 4 (by omega), e 5 (by omega), e 6 (by omega), w2, ck_dk_cf (by omega) (by omega) (by omega)]
    exact ck_div4 (ck_cf_bd hk hp hc) (by decide)
  · rw [e 5 (by omega), e 6 (by omega), e 7 (by omega), w3, ck_dk_cf (by omega) (by omega) (by omega)]
    exact ck_div4 (ck_cf_bd hk hp hc) (by decide)
theorem ck_addTile {m c x y w : Nat} (hm : m < 2) (hc : c < 2) (hx : x + 1 < w) (hy : y + 1 < w) (hw : w ≤ 8) (hk : ∀ q, q < 18 → ck_bd (a2 q) 9) (hp : ∀ q, q < 128 → ck_bd (a1 q) 20) (h6 : ∀ q, q < 16 → a6 q = ck_S4 a2 c q)
    (H : ∀ p4 p7, pos2 (fs, nI m, fc, nI w, a1, a2, ck_ta (ck_cf a2 a1 m c) x y a3, p4, a5, a6, p7, a8, a9, a10, a11, a12, a13, a14)) : wpX_addTile pos2 (fs, nI m, fc, nI w, a1, a2, a3, a4, a5, a6, a7, a8, a9, a10, a11, a12, a13, a14) (nI c) (nI x) (nI y) := by
  refine ck_loop (fun n j t => wX_addTile_3 pos2 (nI c) (nI x) (nI y) fs (nI m) fc (nI w) n (nI j) a1 a2 a3 t a5 a6 a7 a8 a9 a10 a11 a12 a13 a14) (fun j => ck_rg 0 (4 * j) (ck_dv a1 m c x y) a4) 4 _ ck_rg_0.symm ?_ ?_
  · intro n
    refine pk_le 4 4 (fun _ => ck_t68 hx hy hw (fun p7 => ?_)) (fun z => absurd z (by omega))
    have h := H (ck_D2 (ck_rg 0 (4 * 4) (ck_dv a1 m c x y) a4)) p7
    rw [← ck_tile4 (a4 := a4) (a7 := a7) (by omega) hc hk hp h6] at h
    exact h
  · intro n j hj hh
    exact pk_le 4 j (fun z => absurd z (by omega)) (fun _ => ck_t12 hm hc (by omega) (by omega) hj hh)
/-! the tiles of a row, of a layer -/
def ck_tl (v : Nat → Int32) (w : Nat) (b : Nat → Int32) (y x : Nat) : Nat → Int32 := fun q => if (q % 8 < w ∧ q < 8 * w) ∧ (q / 16 < y ∨ (q / 16 = y ∧ q % 8 / 2 < x)) then b q + v q else b q
theorem ck_tl_0 {v b : Nat → Int32} {w : Nat} : b = ck_tl v w b 0 0 := by
  funext q
  exact (if_neg (by omega)).symm
theorem ck_tl_s {v b : Nat → Int32} {h x y : Nat} (hx : x < h) (hy : y < h) (hh : h ≤ 4) : ck_ta v (2 * x) (2 * y) (ck_tl v (2 * h) b y x) = ck_tl v (2 * h) b y (x + 1) := by
  funext q
  unfold ck_ta
  by_cases g : (q / 8 = 2 * y ∨ q / 8 = 2 * y + 1) ∧ (q % 8 = 2 * x ∨ q % 8 = 2 * x + 1)
  · rw [if_pos g]
    unfold ck_tl
    rw [if_neg (by omega), if_pos (by omega)]
  · rw [if_neg g]
    unfold ck_tl
    by_cases k : (q % 8 < 2 * h ∧ q < 8 * (2 * h)) ∧ (q / 16 < y ∨ (q / 16 = y ∧ q % 8 / 2 < x))
    · rw [if_pos k, if_pos (by omega)]
    · rw [if_neg k, if_neg (by omega)]
theorem ck_tl_r {v b : Nat → Int32} {h y : Nat} : ck_tl v (2 * h) b y h = ck_tl v (2 * h) b (y + 1) 0 := by
  funext q
  unfold ck_tl
  by_cases k : (q % 8 < 2 * h ∧ q < 8 * (2 * h)) ∧ (q / 16 < y ∨ (q / 16 = y ∧ q % 8 / 2 < h))
  · rw [if_pos k, if_pos (by omega)]
  · rw [if_neg k, if_neg (by omega)]
def ck_to (k p : Nat → Int32) (m w c : Nat) (o : Nat → Int32) : Nat → Int32 := fun q => if q % 8 < w ∧ q < 8 * w then ck_s (9 * c) (ck_tm k p 1 m (q % 8) (q / 8)) else o q
theorem ck_to_0 {k p o : Nat → Int32} {m w : Nat} (hw : w ≤ 8) (ho : ∀ j, j < 64 → o j = 0) : o = ck_to k p m w 0 o := by
  funext q
  show o q = if q % 8 < w ∧ q < 8 * w then 0 else o q
  by_cases h : q % 8 < w ∧ q < 8 * w
  · rw [if_pos h, ho q (by omega)]
  · rw [if_neg h]
theorem ck_to_s {k p o : Nat → Int32} {m h c : Nat} : ck_tl (ck_cf k p m c) (2 * h) (ck_to k p m (2 * h) c o) h 0 = ck_to k p m (2 * h) (c + 1) o := by
  funext q
  unfold ck_tl
  by_cases g : q % 8 < 2 * h ∧ q < 8 * (2 * h)
  · rw [if_pos (by omega)]
    unfold ck_to
    rw [if_pos g, if_pos g]
    exact (ck_s_ab (9 * c) 9).symm
  · rw [if_neg (fun z => g z.1)]
    unfold ck_to
    rw [if_neg g, if_neg g]
theorem ck_n2 (i : Nat) : nI (2 * i) + 2 = nI (2 * (i + 1)) := by
  show nI (2 * i) + nI 2 = _
  rw [nI_add, Nat.mul_succ]
theorem ck_mt24 {J2 J : Int32 → Int32 → Int32 → Int32 → Int32 → (Nat → Int32) → (Nat → Int32) → (Nat → Int32) → (Nat → Int32) → (Nat → Int32) → (Nat → Int32) → (Nat → Int32) → (Nat → Int32) → (Nat → Int32) → (Nat → Int32) → (Nat → Int32) → (Nat → Int32) → (Nat → Int32) → (Nat → Int32) → Prop} {m c h y : Nat} {b : Nat → Int32} (hm : m < 2) (hc : c < 2) (hy : y < h) (hh : h ≤ 4) (hk : ∀ q, q < 18 → ck_bd (a2 q) 9) (hp : ∀ q, q < 128 → ck_bd (a1 q) 20) (h6 : ∀ q, q < 16 → a6 q = ck_S4 a2 c q)
    (H : ∀ p4 p7, J (nI (2 * (y + 1))) fs (nI m) fc (nI (2 * h)) a1 a2 (ck_tl (ck_cf a2 a1 m c) (2 * h) b (y + 1) 0) p4 a5 a6 p7 a8 a9 a10 a11 a12 a13 a14) :
    ∃ n, wX_moveByTiles_24 pos2 J2 J (nI c) (nI (2 * y)) n 0 fs (nI m) fc (nI (2 * h)) a1 a2 (ck_tl (ck_cf a2 a1 m c) (2 * h) b y 0) a4 a5 a6 a7 a8 a9 a10 a11 a12 a13 a14 := by
  refine pk_loop (σ := (Nat → Int32) × (Nat → Int32)) (fun n x t => wX_moveByTiles_24 pos2 J2 J (nI c) (nI (2 * y)) n (nI (2 * x)) fs (nI m) fc (nI (2 * h)) a1 a2 (ck_tl (ck_cf a2 a1 m c) (2 * h) b y x) t.1 a5 a6 t.2 a8 a9 a10 a11 a12 a13 a14) (fun _ _ => True) h 0 (a4, a7) (by omega) trivial ?_ ?_
  · intro n t _
    refine pk_le (2 * h) (2 * h) (fun _ => nm_r (ck_n2 y) ?_) (fun z => absurd z (by omega))
    rw [ck_tl_r]
    exact H _ _
  · intro n x t hx _ hq
    refine pk_le (2 * h) (2 * x) (fun z => absurd z (by omega)) (fun _ => ck_addTile hm hc (by omega) (by omega) (by omega) hk hp h6 (fun p4 p7 => nm_r (ck_n2 x) ?_))
    rw [ck_tl_s hx hy hh]
    exact hq (p4, p7) trivial
theorem ck_mt14 {J : Int32 → Int32 → Int32 → Int32 → Int32 → (Nat → Int32) → (Nat → Int32) → (Nat → Int32) → (Nat → Int32) → (Nat → Int32) → (Nat → Int32) → (Nat → Int32) → (Nat → Int32) → (Nat → Int32) → (Nat → Int32) → (Nat → Int32) → (Nat → Int32) → (Nat → Int32) → (Nat → Int32) → Prop} {m c h : Nat} {b : Nat → Int32} (hm : m < 2) (hc : c < 2) (hh : h ≤ 4) (hk : ∀ q, q < 18 → ck_bd (a2 q) 9) (hp : ∀ q, q < 128 → ck_bd (a1 q) 20) (h6 : ∀ q, q < 16 → a6 q = ck_S4 a2 c q)
    (H : ∀ p4 p7, J (nI (c + 1)) fs (nI m) fc (nI (2 * h)) a1 a2 (ck_tl (ck_cf a2 a1 m c) (2 * h) b h 0) p4 a5 a6 p7 a8 a9 a10 a11 a12 a13 a14) :
    ∃ n, wX_moveByTiles_14 pos2 J (nI c) n 0 fs (nI m) fc (nI (2 * h)) a1 a2 (ck_tl (ck_cf a2 a1 m c) (2 * h) b 0 0) a4 a5 a6 a7 a8 a9 a10 a11 a12 a13 a14 := by
  refine pk_loop (σ := (Nat → Int32) × (Nat → Int32)) (fun n y t => wX_moveByTiles_14 pos2 J (nI c) n (nI (2 * y)) fs (nI m) fc (nI (2 * h)) a1 a2 (ck_tl (ck_cf a2 a1 m c) (2 * h) b y 0) t.1 a5 a6 t.2 a8 a9 a10 a11 a12 a13 a14) (fun _ _ => True) h 0 (a4, a7) (by omega) trivial ?_ ?_
  · intro n t _
    exact pk_le (2 * h) (2 * h) (fun _ => nm_r (nI_1 c) (H _ _)) (fun z => absurd z (by omega))
  · intro n y t hy _ hq
    exact pk_le (2 * h) (2 * y) (fun z => absurd z (by omega)) (fun _ => ck_mt24 hm hc hy hh hk hp h6 (fun p4 p7 => hq (p4, p7) trivial))
theorem ck_tiles {m h : Nat} (hm : m < 2) (hh : h ≤ 4) (hk : ∀ q, q < 18 → ck_bd (a2 q) 9) (hp : ∀ q, q < 128 → ck_bd (a1 q) 20) (ho : ∀ j, j < 64 → a3 j = 0)
    (H : ∀ o p4 p5 p6 p7, (∀ x y, x < 2 * h → y < 2 * h → o (8 * y + x) = ck_R a2 a1 1 m x y) → pos2 (fs, nI m, fc, nI (2 * h), a1, a2, o, p4, p5, p6, p7, a8, a9, a10, a11, a12, a13, a14)) : wpX_moveByTiles pos2 (fs, nI m, fc, nI (2 * h), a1, a2, a3, a4, a5, a6, a7, a8, a9, a10, a11, a12, a13, a14) := by
  have key : ∃ n, wX_moveByTiles_2 pos2 n (nI 0) fs (nI m) fc (nI (2 * h)) a1 a2 (ck_to a2 a1 m (2 * h) 0 a3) a4 a5 a6 a7 a8 a9 a10 a11 a12 a13 a14 := by
    refine pk_loop (σ := (Nat → Int32) × (Nat → Int32) × (Nat → Int32) × (Nat → Int32)) (fun n c t => wX_moveByTiles_2 pos2 n (nI c) fs (nI m) fc (nI (2 * h)) a1 a2 (ck_to a2 a1 m (2 * h) c a3) t.1 t.2.1 t.2.2.1 t.2.2.2 a8 a9 a10 a11 a12 a13 a14) (fun _ _ => True) 2 0 (a4, a5, a6, a7) (by omega) trivial ?_ ?_
    · intro n t _
      refine pk_le 2 2 (fun _ => H _ _ _ _ _ (fun x y hx hy => ?_)) (fun z => absurd z (by omega))
      show (if (8 * y + x) % 8 < 2 * h ∧ 8 * y + x < 8 * (2 * h) then _ else _) = _
      rw [if_pos (by omega), ck_R_tm, show (8 * y + x) % 8 = x by omega, show (8 * y + x) / 8 = y by omega]
    · intro n c t hc _ hq
      refine pk_le 2 c (fun z => absurd z (by omega)) (fun _ => ck_shapeKernel hc (fun h5 h6 e6 => ?_))
      have g := ck_mt14 (pos2 := pos2) (J := wX_moveByTiles_2 pos2 n) (m := m) (c := c) (h := h) (b := ck_to a2 a1 m (2 * h) c a3) (fs := fs) (fc := fc) (a1 := a1) (a2 := a2) (a4 := t.1) (a5 := h5) (a6 := h6) (a7 := t.2.2.2) (a8 := a8) (a9 := a9) (a10 := a10) (a11 := a11) (a12 := a12) (a13 := a13) (a14 := a14) hm hc hh hk hp e6 (fun p4 p7 => by rw [ck_to_s]; exact hq (p4, h5, h6, p7) trivial)
      rw [← ck_tl_0] at g
      exact g
  rw [← ck_to_0 (by omega) ho] at key
  exact key
end
end
section
/-! the transforms, pure: sums of naturals, residues, orthogonality, the convolution -/
def ck_S : Nat → (Nat → Nat) → Nat
  | 0, _ => 0
  | n + 1, f => ck_S n f + f n
theorem ck_S_1 (n : Nat) (f : Nat → Nat) : ck_S (n + 1) f = ck_S n f + f n := rfl
def ck_cg (a b : Nat) : Prop := a % 7681 = b % 7681
theorem ck_cg_r (a : Nat) : ck_cg a a := rfl
theorem ck_cg_e {a b : Nat} (h : a = b) : ck_cg a b := by rw [h]; rfl
theorem ck_cg_s {a b : Nat} (h : ck_cg a b) : ck_cg b a := Eq.symm h
theorem ck_cg_t {a b c : Nat} (h : ck_cg a b) (g : ck_cg b c) : ck_cg a c := Eq.trans h g
theorem ck_cg_p (a : Nat) : ck_cg (a % 7681) a := Nat.mod_mod _ _
theorem ck_cg_a {a b c d : Nat} (h : ck_cg a b) (g : ck_cg c d) : ck_cg (a + c) (b + d) := by
  unfold ck_cg at *
  omega
theorem ck_cg_m {a b c d : Nat} (h : ck_cg a b) (g : ck_cg c d) : ck_cg (a * c) (b * d) := by
  unfold ck_cg at *
  rw [Nat.mul_mod, h, g, ← Nat.mul_mod]
theorem ck_S_c {f g : Nat → Nat} (n : Nat) (h : ∀ i, i < n → f i = g i) : ck_S n f = ck_S n g := by
  induction n with
  | zero => rfl
  | succ n ih => rw [ck_S_1, ck_S_1, ih (fun i hi => h i (by omega)), h n (by omega)]
theorem ck_S_g {f g : Nat → Nat} (n : Nat) (h : ∀ i, i < n → ck_cg (f i) (g i)) : ck_cg (ck_S n f) (ck_S n g) := by
  induction n with
  | zero => exact ck_cg_r _
  | succ n ih => exact ck_cg_a (ih (fun i hi => h i (by omega))) (h n (by omega))
theorem ck_S_z (n : Nat) : ck_S n (fun _ => 0) = 0 := by
  induction n with
  | zero => rfl
  | succ n ih => rw [ck_S_1, ih]
theorem ck_S_a (n : Nat) (f g : Nat → Nat) : ck_S n (fun i => f i + g i) = ck_S n f + ck_S n g := by
  induction n with
  | zero => rfl
  | succ n ih => rw [ck_S_1, ck_S_1, ck_S_1, ih]; omega
theorem ck_S_ml (n c : Nat) (f : Nat → Nat) : c * ck_S n f = ck_S n (fun i => c * f i) := by
  induction n with
  | zero => rfl
  | succ n ih => rw [ck_S_1, ck_S_1, ← ih, Nat.mul_add]
theorem ck_S_mr (n c : Nat) (f : Nat → Nat) : ck_S n f * c = ck_S n (fun i => f i * c) := by
  induction n with
  | zero => exact Nat.zero_mul c
  | succ n ih => rw [ck_S_1, ck_S_1, ← ih, Nat.add_mul]
theorem ck_S_x (n m : Nat) (f : Nat → Nat → Nat) : ck_S n (fun i => ck_S m (fun j => f i j)) = ck_S m (fun j => ck_S n (fun i => f i j)) := by
  induction n with
  | zero => exact (ck_S_z m).symm
  | succ n ih =>
    rw [ck_S_1, ih, ← ck_S_a]
    rfl
theorem ck_S_o {f : Nat → Nat} (n j : Nat) (hj : j < n) (h : ∀ i, i < n → i ≠ j → f i = 0) : ck_S n f = f j := by
  induction n with
  | zero => omega
  | succ n ih =>
    rw [ck_S_1]
    by_cases e : j = n
    · have z : ck_S n f = ck_S n (fun _ => 0) := ck_S_c n (fun i hi => h i (by omega) (by omega))
      rw [z, ck_S_z, e, Nat.zero_add]
    · rw [ih (by omega) (fun i hi hn => h i (by omega) hn), h n (by omega) (by omega), Nat.add_zero]
theorem ck_S_t {f : Nat → Nat} (m n : Nat) (hm : m ≤ n) (h : ∀ i, m ≤ i → i < n → f i = 0) : ck_S n f = ck_S m f := by
  induction n with
  | zero => rw [show m = 0 by omega]
  | succ n ih =>
    by_cases e : m = n + 1
    · rw [e]
    · rw [ck_S_1, ih (by omega) (fun i h1 h2 => h i h1 (by omega)), h n (by omega) (by omega), Nat.add_zero]
theorem ck_S_le {f : Nat → Nat} {B : Nat} (n : Nat) (h : ∀ i, i < n → f i ≤ B) : ck_S n f ≤ n * B := by
  induction n with
  | zero => exact Nat.zero_le _
  | succ n ih =>
    have a := ih (fun i hi => h i (by omega))
    have b := h n (by omega)
    rw [ck_S_1, Nat.succ_mul]
    omega
/-! sums over 16 by 16 -/
def ck_D (f : Nat → Nat → Nat) : Nat := ck_S 16 (fun i => ck_S 16 (fun j => f i j))
theorem ck_D_c {f g : Nat → Nat → Nat} (h : ∀ i j, i < 16 → j < 16 → f i j = g i j) : ck_D f = ck_D g := ck_S_c 16 (fun i hi => ck_S_c 16 (fun j hj => h i j hi hj))
theorem ck_D_g {f g : Nat → Nat → Nat} (h : ∀ i j, i < 16 → j < 16 → ck_cg (f i j) (g i j)) : ck_cg (ck_D f) (ck_D g) := ck_S_g 16 (fun i hi => ck_S_g 16 (fun j hj => h i j hi hj))
theorem ck_D_ml (c : Nat) (f : Nat → Nat → Nat) : c * ck_D f = ck_D (fun i j => c * f i j) := by
  unfold ck_D
  rw [ck_S_ml]
  exact ck_S_c 16 (fun i _ => ck_S_ml 16 c _)
theorem ck_D_mr (c : Nat) (f : Nat → Nat → Nat) : ck_D f * c = ck_D (fun i j => f i j * c) := by
  unfold ck_D
  rw [ck_S_mr]
  exact ck_S_c 16 (fun i _ => ck_S_mr 16 c _)
theorem ck_D_a (f g : Nat → Nat → Nat) : ck_D (fun i j => f i j + g i j) = ck_D f + ck_D g := by
  unfold ck_D
  rw [← ck_S_a]
  exact ck_S_c 16 (fun i _ => ck_S_a 16 _ _)
theorem ck_D_p (f g : Nat → Nat) : ck_S 16 f * ck_S 16 g = ck_D (fun i j => f i * g j) := by
  unfold ck_D
  rw [ck_S_mr]
  exact ck_S_c 16 (fun i _ => ck_S_ml 16 _ _)
theorem ck_S_D (f : Nat → Nat → Nat → Nat) : ck_S 16 (fun k => ck_D (fun i j => f k i j)) = ck_D (fun i j => ck_S 16 (fun k => f k i j)) := by
  unfold ck_D
  rw [ck_S_x]
  exact ck_S_c 16 (fun i _ => ck_S_x 16 16 _)
theorem ck_D_x (f : Nat → Nat → Nat → Nat → Nat) : ck_D (fun k l => ck_D (fun i j => f k l i j)) = ck_D (fun i j => ck_D (fun k l => f k l i j)) := by
  show ck_S 16 (fun k => ck_S 16 (fun l => ck_D (fun i j => f k l i j))) = ck_D (fun i j => ck_S 16 (fun k => ck_S 16 (fun l => f k l i j)))
  rw [← ck_S_D]
  exact ck_S_c 16 (fun k _ => ck_S_D _)
/-! powers of the root -/
theorem ck_e16 : 7098 ^ 16 % 7681 = 1 := by decide +kernel
theorem ck_e15 : 7098 ^ 15 % 7681 = 7154 := by decide +kernel
theorem ck_er (x : Nat) : ck_cg (7098 ^ (x % 16)) (7098 ^ x) := by
  have h : 7098 ^ x = (7098 ^ 16) ^ (x / 16) * 7098 ^ (x % 16) := by
    rw [← Nat.pow_mul, ← Nat.pow_add, Nat.div_add_mod]
  have g : ck_cg ((7098 ^ 16) ^ (x / 16)) 1 := by
    unfold ck_cg
    rw [Nat.pow_mod, ck_e16, Nat.one_pow]
  rw [h]
  have k := ck_cg_m g (ck_cg_r (7098 ^ (x % 16)))
  rw [Nat.one_mul] at k
  exact ck_cg_s k
theorem ck_ei (n : Nat) : ck_cg (7154 ^ n) (7098 ^ (15 * n)) := by
  unfold ck_cg
  rw [Nat.pow_mul, Nat.pow_mod (7098 ^ 15), ck_e15]
theorem ck_or : ∀ r, r < 16 → ck_S 16 (fun k => 7098 ^ (k * r)) % 7681 = if r = 0 then 16 else 0 := by decide +kernel
def ck_de (t Y : Nat) : Nat := if t % 16 = Y then 1 else 0
theorem ck_ort (t Y : Nat) (hY : Y < 16) : ck_cg (ck_S 16 (fun k => 7098 ^ (k * t) * 7154 ^ (Y * k))) (16 * ck_de t Y) := by
  have a : ck_cg (ck_S 16 (fun k => 7098 ^ (k * t) * 7154 ^ (Y * k))) (ck_S 16 (fun k => 7098 ^ (k * ((t + 15 * Y) % 16)))) := by
    refine ck_S_g 16 (fun k _ => ?_)
    refine ck_cg_t (ck_cg_m (ck_cg_r _) (ck_ei (Y * k))) ?_
    rw [← Nat.pow_add, show k * t + 15 * (Y * k) = k * (t + 15 * Y) by rw [Nat.mul_add, Nat.mul_comm Y k, Nat.mul_left_comm]]
    refine ck_cg_t (ck_cg_s (ck_er _)) (ck_cg_t ?_ (ck_er _))
    rw [Nat.mul_mod_mod]
    exact ck_cg_r _
  refine ck_cg_t a ?_
  have b := ck_or ((t + 15 * Y) % 16) (Nat.mod_lt _ (by decide))
  unfold ck_cg
  rw [b]
  unfold ck_de
  by_cases h : t % 16 = Y
  · rw [if_pos h, if_pos (by omega)]
  · rw [if_neg h, if_neg (by omega)]
/-! what the printed transform computes -/
def ck_row (R P : Nat → Nat) : Nat → Nat := fun j => ck_S 16 (fun a => P (16 * (j / 16) + a) * R (j % 16 * a % 16) % 7681) % 7681
def ck_col (R Q : Nat → Nat) : Nat → Nat := fun j => ck_S 16 (fun b => Q (16 * b + j % 16) * R (j / 16 * b % 16) % 7681) % 7681
def ck_tf (R P : Nat → Nat) : Nat → Nat := ck_col R (ck_row R P)
theorem ck_row_lt (R P : Nat → Nat) (j : Nat) : ck_row R P j < 7681 := Nat.mod_lt _ (by decide)
theorem ck_col_lt (R P : Nat → Nat) (j : Nat) : ck_col R P j < 7681 := Nat.mod_lt _ (by decide)
theorem ck_tf_cg {R P : Nat → Nat} (e : Nat) (hR : ∀ x, ck_cg (R (x % 16)) (e ^ x)) {k l : Nat} (hl : l < 16) :
    ck_cg (ck_tf R P (16 * k + l)) (ck_D (fun b a => P (16 * b + a) * (e ^ (l * a) * e ^ (k * b)))) := by
  refine ck_cg_t (ck_cg_p _) (ck_S_g 16 (fun b _ => ?_))
  refine ck_cg_t (ck_cg_p _) ?_
  rw [show (16 * k + l) % 16 = l by omega, show (16 * k + l) / 16 = k by omega]
  have r : ck_cg (ck_row R P (16 * b + l)) (ck_S 16 (fun a => P (16 * b + a) * e ^ (l * a))) := by
    refine ck_cg_t (ck_cg_p _) (ck_S_g 16 (fun a _ => ?_))
    refine ck_cg_t (ck_cg_p _) ?_
    rw [show (16 * b + l) % 16 = l by omega, show (16 * b + l) / 16 = b by omega]
    exact ck_cg_m (ck_cg_r _) (hR _)
  refine ck_cg_t (ck_cg_m r (hR _)) ?_
  rw [ck_S_mr]
  exact ck_cg_e (ck_S_c 16 (fun a _ => Nat.mul_assoc _ _ _))
/-! the convolution -/
theorem ck_ring {K P p q r s u v : Nat} : K * (p * q) * (P * (r * s) * (u * v)) = K * P * ((q * s) * v * ((p * r) * u)) := by ac_rfl
theorem ck_conv (K P : Nat → Nat) {Y X : Nat} (hY : Y < 16) (hX : X < 16) :
    ck_cg (ck_D (fun k l => ck_D (fun b a => K (16 * b + a) * (7098 ^ (l * a) * 7098 ^ (k * b))) * ck_D (fun b a => P (16 * b + a) * (7098 ^ (l * a) * 7098 ^ (k * b))) * (7154 ^ (X * l) * 7154 ^ (Y * k))))
      (256 * ck_D (fun b a => ck_D (fun b' a' => K (16 * b + a) * P (16 * b' + a') * (ck_de (b + b') Y * ck_de (a + a') X)))) := by
  have s1 : ck_D (fun k l => ck_D (fun b a => K (16 * b + a) * (7098 ^ (l * a) * 7098 ^ (k * b))) * ck_D (fun b a => P (16 * b + a) * (7098 ^ (l * a) * 7098 ^ (k * b))) * (7154 ^ (X * l) * 7154 ^ (Y * k)))
      = ck_D (fun b a => ck_D (fun b' a' => ck_D (fun k l => K (16 * b + a) * (7098 ^ (l * a) * 7098 ^ (k * b)) * (P (16 * b' + a') * (7098 ^ (l * a') * 7098 ^ (k * b')) * (7154 ^ (X * l) * 7154 ^ (Y * k)))))) := by
    have t : ∀ k l, ck_D (fun b a => K (16 * b + a) * (7098 ^ (l * a) * 7098 ^ (k * b))) * ck_D (fun b a => P (16 * b + a) * (7098 ^ (l * a) * 7098 ^ (k * b))) * (7154 ^ (X * l) * 7154 ^ (Y * k))
        = ck_D (fun b a => ck_D (fun b' a' => K (16 * b + a) * (7098 ^ (l * a) * 7098 ^ (k * b)) * (P (16 * b' + a') * (7098 ^ (l * a') * 7098 ^ (k * b')) * (7154 ^ (X * l) * 7154 ^ (Y * k))))) := by
      intro k l
      rw [Nat.mul_assoc, ck_D_mr, ck_D_mr]
      exact ck_D_c (fun b a _ _ => ck_D_ml _ _)
    rw [ck_D_c (fun k l _ _ => t k l), ck_D_x]
    exact ck_D_c (fun b a _ _ => ck_D_x _)
  rw [s1, ck_D_ml]
  refine ck_D_g (fun b a _ _ => ?_)
  rw [ck_D_ml]
  refine ck_D_g (fun b' a' _ _ => ?_)
  have s2 : ck_D (fun k l => K (16 * b + a) * (7098 ^ (l * a) * 7098 ^ (k * b)) * (P (16 * b' + a') * (7098 ^ (l * a') * 7098 ^ (k * b')) * (7154 ^ (X * l) * 7154 ^ (Y * k))))
      = K (16 * b + a) * P (16 * b' + a') * (ck_S 16 (fun k => 7098 ^ (k * (b + b')) * 7154 ^ (Y * k)) * ck_S 16 (fun l => 7098 ^ (l * (a + a')) * 7154 ^ (X * l))) := by
    rw [ck_D_p, ck_D_ml]
    refine ck_D_c (fun k l _ _ => ?_)
    rw [Nat.mul_add, Nat.mul_add, Nat.pow_add, Nat.pow_add]
    exact ck_ring
  rw [s2]
  refine ck_cg_t (ck_cg_m (ck_cg_r _) (ck_cg_m (ck_ort (b + b') Y hY) (ck_ort (a + a') X hX))) (ck_cg_e ?_)
  rw [show (256 : Nat) = 16 * 16 from rfl]
  ac_rfl
theorem ck_ext (K P : Nat → Nat) {Y X : Nat} (hY : 2 ≤ Y ∧ Y < 16) (hX : 2 ≤ X ∧ X < 16) (hK : ∀ b a, b < 16 → a < 16 → ¬ (b < 3 ∧ a < 3) → K (16 * b + a) = 0) :
    ck_D (fun b a => ck_D (fun b' a' => K (16 * b + a) * P (16 * b' + a') * (ck_de (b + b') Y * ck_de (a + a') X))) = ck_S 3 (fun b => ck_S 3 (fun a => K (16 * b + a) * P (16 * (Y - b) + (X - a)))) := by
  have z : ∀ b a, b < 16 → a < 16 → ¬ (b < 3 ∧ a < 3) → ck_D (fun b' a' => K (16 * b + a) * P (16 * b' + a') * (ck_de (b + b') Y * ck_de (a + a') X)) = 0 := by
    intro b a hb ha h
    rw [hK b a hb ha h]
    have e : ck_D (fun b' a' => 0 * P (16 * b' + a') * (ck_de (b + b') Y * ck_de (a + a') X)) = ck_D (fun _ _ => 0) := ck_D_c (fun i j _ _ => by rw [Nat.zero_mul, Nat.zero_mul])
    rw [e]
    rfl
  have o : ∀ b a, b < 3 → a < 3 → ck_D (fun b' a' => K (16 * b + a) * P (16 * b' + a') * (ck_de (b + b') Y * ck_de (a + a') X)) = K (16 * b + a) * P (16 * (Y - b) + (X - a)) := by
    intro b a hb ha
    unfold ck_D
    rw [ck_S_o 16 (Y - b) (by omega), ck_S_o 16 (X - a) (by omega)]
    · dsimp only
      unfold ck_de
      rw [if_pos (by omega), if_pos (by omega), Nat.mul_one]
    · intro i hi hn
      have d : ck_de (a + i) X = 0 := if_neg (by omega)
      dsimp only
      rw [d, Nat.mul_zero, Nat.mul_zero]
    · intro i hi hn
      have d : ck_de (b + i) Y = 0 := if_neg (by omega)
      dsimp only
      rw [d]
      have e : ck_S 16 (fun j => K (16 * b + a) * P (16 * i + j) * (0 * ck_de (a + j) X)) = ck_S 16 (fun _ => 0) := ck_S_c 16 (fun j _ => by rw [Nat.zero_mul, Nat.mul_zero])
      rw [e, ck_S_z]
  show ck_S 16 (fun b => ck_S 16 (fun a => _)) = _
  rw [ck_S_t 3 16 (by omega)]
  · refine ck_S_c 3 (fun b hb => ?_)
    rw [ck_S_t 3 16 (by omega)]
    · exact ck_S_c 3 (fun a ha => o b a hb ha)
    · intro a h1 h2
      exact z b a (by omega) (by omega) (by omega)
  · intro b h1 h2
    have e : ck_S 16 (fun a => ck_D (fun b' a' => K (16 * b + a) * P (16 * b' + a') * (ck_de (b + b') Y * ck_de (a + a') X))) = ck_S 16 (fun _ => 0) := ck_S_c 16 (fun a ha => z b a (by omega) ha (by omega))
    rw [e, ck_S_z]
/-- all of it: two layers, there and back -/
def ck_Rt : Nat → Nat := fun j => 7098 ^ j % 7681
def ck_Bk : Nat → Nat := fun j => 7154 ^ j % 7681
theorem ck_Rt_h (x : Nat) : ck_cg (ck_Rt (x % 16)) (7098 ^ x) := ck_cg_t (ck_cg_p _) (ck_er x)
theorem ck_Bk_h (x : Nat) : ck_cg (ck_Bk (x % 16)) (7154 ^ x) := by
  refine ck_cg_t (ck_cg_p _) (ck_cg_t (ck_ei _) ?_)
  refine ck_cg_t ?_ (ck_cg_s (ck_ei x))
  refine ck_cg_t (ck_cg_s (ck_er _)) (ck_cg_t ?_ (ck_er _))
  rw [Nat.mul_mod_mod]
  exact ck_cg_r _
theorem ck_back {K0 K1 P0 P1 T : Nat → Nat} {Y X : Nat} (hY : 2 ≤ Y ∧ Y < 16) (hX : 2 ≤ X ∧ X < 16)
    (h0 : ∀ b a, b < 16 → a < 16 → ¬ (b < 3 ∧ a < 3) → K0 (16 * b + a) = 0) (h1 : ∀ b a, b < 16 → a < 16 → ¬ (b < 3 ∧ a < 3) → K1 (16 * b + a) = 0)
    (hT : ∀ j, j < 256 → ck_cg (T j) (ck_tf ck_Rt P0 j * ck_tf ck_Rt K0 j + ck_tf ck_Rt P1 j * ck_tf ck_Rt K1 j)) :
    ck_cg (ck_tf ck_Bk T (16 * Y + X) * 7651) (ck_S 3 (fun b => ck_S 3 (fun a => K0 (16 * b + a) * P0 (16 * (Y - b) + (X - a)))) + ck_S 3 (fun b => ck_S 3 (fun a => K1 (16 * b + a) * P1 (16 * (Y - b) + (X - a))))) := by
  rw [← ck_ext K0 P0 hY hX h0, ← ck_ext K1 P1 hY hX h1]
  have a : ck_cg (ck_tf ck_Bk T (16 * Y + X)) (256 * (ck_D (fun b a => ck_D (fun b' a' => K0 (16 * b + a) * P0 (16 * b' + a') * (ck_de (b + b') Y * ck_de (a + a') X))) + ck_D (fun b a => ck_D (fun b' a' => K1 (16 * b + a) * P1 (16 * b' + a') * (ck_de (b + b') Y * ck_de (a + a') X))))) := by
    refine ck_cg_t (ck_tf_cg 7154 ck_Bk_h hX.2) ?_
    rw [Nat.mul_add]
    refine ck_cg_t ?_ (ck_cg_a (ck_conv K0 P0 hY.2 hX.2) (ck_conv K1 P1 hY.2 hX.2))
    rw [← ck_D_a]
    refine ck_D_g (fun k l hk hl => ?_)
    refine ck_cg_t (ck_cg_m (hT (16 * k + l) (by omega)) (ck_cg_r _)) ?_
    rw [Nat.add_mul]
    refine ck_cg_a (ck_cg_m ?_ (ck_cg_r _)) (ck_cg_m ?_ (ck_cg_r _))
    · rw [Nat.mul_comm (ck_D _)]
      exact ck_cg_m (ck_tf_cg 7098 ck_Rt_h hl) (ck_tf_cg 7098 ck_Rt_h hl)
    · rw [Nat.mul_comm (ck_D _)]
      exact ck_cg_m (ck_tf_cg 7098 ck_Rt_h hl) (ck_tf_cg 7098 ck_Rt_h hl)
  refine ck_cg_t (ck_cg_m a (ck_cg_r 7651)) ?_
  generalize ck_D (fun b a => ck_D (fun b' a' => K0 (16 * b + a) * P0 (16 * b' + a') * (ck_de (b + b') Y * ck_de (a + a') X))) + ck_D (fun b a => ck_D (fun b' a' => K1 (16 * b + a) * P1 (16 * b' + a') * (ck_de (b + b') Y * ck_de (a + a') X))) = z
  unfold ck_cg
  omega
end
section
/-! the second way: the walk through transformLine, transform -/
section
variable {post : Int32 → Prop} {pos2 : St2 → Prop} {pos3 : Int32 → St2 → Prop} {fs fm fc fw : Int32} {a1 a2 a3 a4 a5 a6 a7 a8 a9 a10 a11 a12 a13 a14 : Nat → Int32}
theorem ck_clear (H : pos2 (fs, fm, fc, fw, a1, a2, a3, a4, a5, a6, a7, ck_rg 0 256 (fun _ => 0) a8, a9, a10, a11, a12, a13, a14)) : wpX_clearPlane pos2 (fs, fm, fc, fw, a1, a2, a3, a4, a5, a6, a7, a8, a9, a10, a11, a12, a13, a14) := by
  refine ck_loop (fun n i t => wX_clearPlane_2 pos2 fs fm fc fw n (nI i) a1 a2 a3 a4 a5 a6 a7 t a9 a10 a11 a12 a13 a14) (fun i => ck_rg 0 i (fun _ => 0) a8) 256 _ ck_rg_0.symm ?_ ?_
  · intro n
    exact pk_le 256 256 (fun _ => H) (fun z => absurd z (by omega))
  · intro n i hi hh
    exact pk_le 256 i (fun z => absurd z (by omega)) (fun _ => And.intro (pk_in i 256 hi) <| nm_r (ck_rg_S (nI_clamp (by omega)) (by omega) rfl) (nm_r (nI_1 i) hh))
/-- a line's number k -/
def ck_lt1 (R P : Nat → Nat) (f t k : Nat) : Nat → Nat := fun i => P (f + i * t) * R (k * i % 16) % 7681
def ck_ln (R P : Nat → Nat) (f t k : Nat) : Nat := ck_S 16 (ck_lt1 R P f t k) % 7681
theorem ck_ln_le (R P : Nat → Nat) (f t k n : Nat) : ck_S n (ck_lt1 R P f t k) ≤ n * 7680 := ck_S_le n (fun i _ => by
  have h : ck_lt1 R P f t k i < 7681 := Nat.mod_lt _ (by decide)
  omega)
theorem ck_and15 {k i : Nat} (hk : k < 16) (hi : i < 16) : (nI k * nI i) &&& 15 = nI (k * i % 16) := by
  have h : k * i ≤ 15 * 15 := Nat.mul_le_mul (by omega) (by omega)
  rw [pk_mul]
  exact pk_andN (by omega) 4 (by decide)
/-- which table a flag names -/
def ck_fl (fl : Int32) (R : Nat → Nat) (r b : Nat → Int32) : Prop := (fl = 0 ∧ ∀ j, j < 16 → r j = nI (R j)) ∨ (fl = 1 ∧ ∀ j, j < 16 → b j = nI (R j))
theorem ck_l56 {J : Int32 → (Nat → Int32) → (Nat → Int32) → (Nat → Int32) → (Nat → Int32) → (Nat → Int32) → (Nat → Int32) → (Nat → Int32) → (Nat → Int32) → (Nat → Int32) → (Nat → Int32) → (Nat → Int32) → (Nat → Int32) → (Nat → Int32) → (Nat → Int32) → Prop} {J16 : Int32 → Int32 → Prop} {fl z : Int32} {R P : Nat → Nat} {f t k i : Nat} (hk : k < 16) (hi : i < 16) (hf : f + i * t < 256) (hP : ∀ j, j < 256 → a8 j = nI (P j)) (hP2 : ∀ j, P j < 7681) (hR2 : ∀ j, R j < 7681)
    (ez : z = nI (R (k * i % 16))) (H : J16 (nI (ck_S (i + 1) (ck_lt1 R P f t k))) (nI (i + 1))) :
    wX_transformLine_56 pos2 J J16 (nI f) (nI t) fl (nI k) (nI (ck_S i (ck_lt1 R P f t k))) (nI i) z fs fm fc fw a1 a2 a3 a4 a5 a6 a7 a8 a9 a10 a11 a12 a13 a14 := by
  have ei : nI f + nI i * nI t = nI (f + i * t) := ck_ad rfl (pk_mul _ _)
  refine And.intro (pk_in _ 256 hf ei) <| And.intro ck_p0 <| nm_r ?_ (nm_r (nI_1 i) H)
  rw [pk_cl _ ei (by omega), hP _ hf, ez, ck_mm (hP2 _) (hR2 _), nI_add]
  rfl
theorem ck_l16 {J : Int32 → (Nat → Int32) → (Nat → Int32) → (Nat → Int32) → (Nat → Int32) → (Nat → Int32) → (Nat → Int32) → (Nat → Int32) → (Nat → Int32) → (Nat → Int32) → (Nat → Int32) → (Nat → Int32) → (Nat → Int32) → (Nat → Int32) → (Nat → Int32) → Prop} {fl : Int32} {R P : Nat → Nat} {f t k : Nat} (hk : k < 16) (hf : ∀ i, i < 16 → f + i * t < 256) (hP : ∀ j, j < 256 → a8 j = nI (P j)) (hP2 : ∀ j, P j < 7681) (hR2 : ∀ j, R j < 7681) (hT : ck_fl fl R a12 a13)
    (H : J (nI (k + 1)) a1 a2 a3 a4 a5 a6 a7 a8 a9 a10 (upd a11 k (nI (ck_ln R P f t k))) a12 a13 a14) :
    ∃ n, wX_transformLine_16 pos2 J (nI f) (nI t) fl (nI k) fs fm fc fw a1 a2 a3 a4 a5 a6 a7 a8 a9 a10 a11 a12 a13 a14 n 0 0 := by
  refine ck_loop (fun n i s => wX_transformLine_16 pos2 J (nI f) (nI t) fl (nI k) fs fm fc fw a1 a2 a3 a4 a5 a6 a7 a8 a9 a10 a11 a12 a13 a14 n s (nI i)) (fun i => nI (ck_S i (ck_lt1 R P f t k))) 16 _ rfl ?_ ?_
  · intro n
    have b := ck_ln_le R P f t k 16
    refine pk_le 16 16 (fun _ => And.intro ck_p0 <| And.intro (pk_in k 16 hk) <| nm_r (ck_ue (nI_clamp (by omega)) ?_) (nm_r (nI_1 k) H)) (fun z => absurd z (by omega))
    exact pk_rem (d := 7681) (by omega) (by decide) (by decide)
  · intro n i hi hh
    have ea := ck_and15 hk hi
    have hm : k * i % 16 < 16 := Nat.mod_lt _ (by decide)
    refine pk_le 16 i (fun z => absurd z (by omega)) (fun _ => ?_)
    rcases hT with ⟨e, g⟩ | ⟨e, g⟩
    · refine br_t e (And.intro (pk_in _ 16 hm ea) (ck_l56 hk hi (hf i hi) hP hP2 hR2 ?_ hh))
      rw [pk_cl _ ea (by omega)]
      exact g _ hm
    · refine br_f (by rw [e]; decide) (And.intro (pk_in _ 16 hm ea) (ck_l56 hk hi (hf i hi) hP hP2 hR2 ?_ hh))
      rw [pk_cl _ ea (by omega)]
      exact g _ hm
/-- the line written back -/
def ck_wl (R P : Nat → Nat) (f t n : Nat) (a : Nat → Int32) : Nat → Int32 := ck_wr (fun q => decide (f ≤ q ∧ (q - f) % t = 0)) (fun q => (q - f) / t) n (fun q => nI (ck_ln R P f t ((q - f) / t))) a
theorem ck_wl_s {R P : Nat → Nat} {f t n : Nat} {a : Nat → Int32} (ht : t = 1 ∨ t = 16) : upd (ck_wl R P f t n a) (f + n * t) (nI (ck_ln R P f t n)) = ck_wl R P f t (n + 1) a := by
  rcases ht with rfl | rfl
  · refine ck_wr_s (decide_eq_true (by omega)) (show (f + n * 1 - f) / 1 = n by omega) (fun q hd hr => ?_) ?_
    · have hd' := of_decide_eq_true hd
      have hr' : (q - f) / 1 = n := hr
      omega
    · rw [show (f + n * 1 - f) / 1 = n by omega]
  · refine ck_wr_s (decide_eq_true (by omega)) (show (f + n * 16 - f) / 16 = n by omega) (fun q hd hr => ?_) ?_
    · have hd' := of_decide_eq_true hd
      have hr' : (q - f) / 16 = n := hr
      omega
    · rw [show (f + n * 16 - f) / 16 = n by omega]
theorem ck_l109 {R P : Nat → Nat} {f t : Nat} (ht : t = 1 ∨ t = 16) (hf : ∀ i, i < 16 → f + i * t < 256) (hL : ∀ k, k < 16 → a11 k = nI (ck_ln R P f t k)) (H : pos2 (fs, fm, fc, fw, a1, a2, a3, a4, a5, a6, a7, ck_wl R P f t 16 a8, a9, a10, a11, a12, a13, a14)) :
    ∃ n, wX_transformLine_109 pos2 (nI f) (nI t) fs fm fc fw n 0 a1 a2 a3 a4 a5 a6 a7 a8 a9 a10 a11 a12 a13 a14 := by
  refine ck_loop (fun n k s => wX_transformLine_109 pos2 (nI f) (nI t) fs fm fc fw n (nI k) a1 a2 a3 a4 a5 a6 a7 s a9 a10 a11 a12 a13 a14) (fun k => ck_wl R P f t k a8) 16 _ ck_wr_0.symm ?_ ?_
  · intro n
    exact pk_le 16 16 (fun _ => H) (fun z => absurd z (by omega))
  · intro n k hk hh
    have ei : nI f + nI k * nI t = nI (f + k * t) := ck_ad rfl (pk_mul _ _)
    have hb := hf k hk
    refine pk_le 16 k (fun z => absurd z (by omega)) (fun _ => And.intro (pk_in k 16 hk) <| And.intro (pk_in _ 256 hb ei) <| nm_r ?_ (nm_r (nI_1 k) hh))
    rw [pk_cl _ ei (by omega), nI_clamp (by omega), hL k hk]
    exact ck_wl_s ht
theorem ck_tLine {fl ff : Int32} {R P : Nat → Nat} {f t : Nat} (ef : ff = nI f) (ht : t = 1 ∨ t = 16) (hf : ∀ i, i < 16 → f + i * t < 256) (hP : ∀ j, j < 256 → a8 j = nI (P j)) (hP2 : ∀ j, P j < 7681) (hR2 : ∀ j, R j < 7681) (hT : ck_fl fl R a12 a13)
    (H : ∀ l, pos2 (fs, fm, fc, fw, a1, a2, a3, a4, a5, a6, a7, ck_wl R P f t 16 a8, a9, a10, l, a12, a13, a14)) : wpX_transformLine pos2 (fs, fm, fc, fw, a1, a2, a3, a4, a5, a6, a7, a8, a9, a10, a11, a12, a13, a14) ff (nI t) fl := by
  subst ef
  refine ck_loop (fun n k s => wX_transformLine_3 pos2 (nI f) (nI t) fl fs fm fc fw n (nI k) a1 a2 a3 a4 a5 a6 a7 a8 a9 a10 s a12 a13 a14) (fun k => ck_rg 0 k (fun k => nI (ck_ln R P f t k)) a11) 16 _ ck_rg_0.symm ?_ ?_
  · intro n
    exact pk_le 16 16 (fun _ => ck_l109 ht hf (fun k hk => ck_rg_in ⟨by omega, hk⟩) (H _)) (fun z => absurd z (by omega))
  · intro n k hk hh
    refine pk_le 16 k (fun z => absurd z (by omega)) (fun _ => ck_l16 hk hf hP hP2 hR2 hT ?_)
    rw [ck_rg_s (v := fun k => nI (ck_ln R P f t k)) (by omega) rfl]
    exact hh
/-! rows, then columns -/
def ck_rwi (R P : Nat → Nat) (i : Nat) : Nat → Nat := fun j => if j / 16 < i then ck_row R P j else P j
def ck_cli (R Q : Nat → Nat) (i : Nat) : Nat → Nat := fun j => if j % 16 < i then ck_col R Q j else Q j
theorem ck_rwi_lt {R P : Nat → Nat} (h : ∀ j, P j < 7681) (i j : Nat) : ck_rwi R P i j < 7681 := by
  unfold ck_rwi
  by_cases g : j / 16 < i
  · rw [if_pos g]
    exact ck_row_lt R P j
  · rw [if_neg g]
    exact h j
theorem ck_cli_lt {R P : Nat → Nat} (h : ∀ j, P j < 7681) (i j : Nat) : ck_cli R P i j < 7681 := by
  unfold ck_cli
  by_cases g : j % 16 < i
  · rw [if_pos g]
    exact ck_col_lt R P j
  · rw [if_neg g]
    exact h j
theorem ck_rwi_s {R P : Nat → Nat} {i : Nat} {a : Nat → Int32} (hi : i < 16) (h : ∀ j, j < 256 → a j = nI (ck_rwi R P i j)) : ∀ j, j < 256 → ck_wl R (ck_rwi R P i) (16 * i) 1 16 a j = nI (ck_rwi R P (i + 1) j) := by
  intro j hj
  by_cases g : j / 16 = i
  · have e : ck_wl R (ck_rwi R P i) (16 * i) 1 16 a j = nI (ck_ln R (ck_rwi R P i) (16 * i) 1 ((j - 16 * i) / 1)) := if_pos ⟨decide_eq_true (by omega), show (j - 16 * i) / 1 < 16 by omega⟩
    rw [e]
    refine congrArg nI ?_
    unfold ck_rwi
    rw [if_pos (by omega), show (j - 16 * i) / 1 = j % 16 by omega]
    refine congrArg (· % 7681) (ck_S_c 16 (fun a ha => ?_))
    unfold ck_lt1
    dsimp only
    rw [if_neg (by omega), show 16 * i + a * 1 = 16 * (j / 16) + a by omega]
  · have e : ck_wl R (ck_rwi R P i) (16 * i) 1 16 a j = a j := if_neg (fun z => by
      have z1 := of_decide_eq_true z.1
      have z2 : (j - 16 * i) / 1 < 16 := z.2
      omega)
    rw [e, h j hj]
    refine congrArg nI ?_
    unfold ck_rwi
    by_cases k : j / 16 < i
    · rw [if_pos k, if_pos (by omega)]
    · rw [if_neg k, if_neg (by omega)]
theorem ck_cli_s {R P : Nat → Nat} {i : Nat} {a : Nat → Int32} (hi : i < 16) (h : ∀ j, j < 256 → a j = nI (ck_cli R P i j)) : ∀ j, j < 256 → ck_wl R (ck_cli R P i) i 16 16 a j = nI (ck_cli R P (i + 1) j) := by
  intro j hj
  by_cases g : j % 16 = i
  · have e : ck_wl R (ck_cli R P i) i 16 16 a j = nI (ck_ln R (ck_cli R P i) i 16 ((j - i) / 16)) := if_pos ⟨decide_eq_true (by omega), show (j - i) / 16 < 16 by omega⟩
    rw [e]
    refine congrArg nI ?_
    unfold ck_cli
    rw [if_pos (by omega), show (j - i) / 16 = j / 16 by omega]
    refine congrArg (· % 7681) (ck_S_c 16 (fun a ha => ?_))
    unfold ck_lt1
    dsimp only
    rw [if_neg (by omega), show i + a * 16 = 16 * a + j % 16 by omega]
  · have e : ck_wl R (ck_cli R P i) i 16 16 a j = a j := if_neg (fun z => by
      have z1 := of_decide_eq_true z.1
      have z2 : (j - i) / 16 < 16 := z.2
      omega)
    rw [e, h j hj]
    refine congrArg nI ?_
    unfold ck_cli
    by_cases k : j % 16 < i
    · rw [if_pos k, if_pos (by omega)]
    · rw [if_neg k, if_neg (by omega)]
theorem ck_tr26 {fl : Int32} {R P : Nat → Nat} (hP : ∀ j, j < 256 → a8 j = nI (P j)) (hP2 : ∀ j, P j < 7681) (hR2 : ∀ j, R j < 7681) (hT : ck_fl fl R a12 a13)
    (H : ∀ p l, (∀ j, j < 256 → p j = nI (ck_col R P j)) → pos2 (fs, fm, fc, fw, a1, a2, a3, a4, a5, a6, a7, p, a9, a10, l, a12, a13, a14)) : ∃ n, wX_transform_26 pos2 fl n 0 fs fm fc fw a1 a2 a3 a4 a5 a6 a7 a8 a9 a10 a11 a12 a13 a14 := by
  refine pk_loop (σ := (Nat → Int32) × (Nat → Int32)) (fun n i s => wX_transform_26 pos2 fl n (nI i) fs fm fc fw a1 a2 a3 a4 a5 a6 a7 s.1 a9 a10 s.2 a12 a13 a14) (fun i s => ∀ j, j < 256 → s.1 j = nI (ck_cli R P i j)) 16 0 (a8, a11) (by omega) (fun j hj => (hP j hj).trans (congrArg nI (if_neg (by omega)).symm)) ?_ ?_
  · intro n s h
    refine pk_le 16 16 (fun _ => H _ _ (fun j hj => ?_)) (fun z => absurd z (by omega))
    rw [h j hj]
    exact congrArg nI (if_pos (by omega))
  · intro n i s hi h hh
    exact pk_le 16 i (fun z => absurd z (by omega)) (fun _ => ck_tLine (t := 16) rfl (Or.inr rfl) (fun k hk => by omega) h (ck_cli_lt hP2 i) hR2 hT (fun l => nm_r (nI_1 i) (hh (_, l) (ck_cli_s hi h))))
theorem ck_transform {fl : Int32} {R P : Nat → Nat} (hP : ∀ j, j < 256 → a8 j = nI (P j)) (hP2 : ∀ j, P j < 7681) (hR2 : ∀ j, R j < 7681) (hT : ck_fl fl R a12 a13)
    (H : ∀ p l, (∀ j, j < 256 → p j = nI (ck_tf R P j)) → pos2 (fs, fm, fc, fw, a1, a2, a3, a4, a5, a6, a7, p, a9, a10, l, a12, a13, a14)) : wpX_transform pos2 (fs, fm, fc, fw, a1, a2, a3, a4, a5, a6, a7, a8, a9, a10, a11, a12, a13, a14) fl := by
  refine pk_loop (σ := (Nat → Int32) × (Nat → Int32)) (fun n i s => wX_transform_2 pos2 fl n (nI i) fs fm fc fw a1 a2 a3 a4 a5 a6 a7 s.1 a9 a10 s.2 a12 a13 a14) (fun i s => ∀ j, j < 256 → s.1 j = nI (ck_rwi R P i j)) 16 0 (a8, a11) (by omega) (fun j hj => (hP j hj).trans (congrArg nI (if_neg (by omega)).symm)) ?_ ?_
  · intro n s h
    refine pk_le 16 16 (fun _ => ck_tr26 (P := ck_row R P) (fun j hj => ?_) (ck_row_lt R P) hR2 hT H) (fun z => absurd z (by omega))
    rw [h j hj]
    exact congrArg nI (if_pos (by omega))
  · intro n i s hi h hh
    exact pk_le 16 i (fun z => absurd z (by omega)) (fun _ => ck_tLine (f := 16 * i) (t := 1) (ck_ml rfl rfl) (Or.inl rfl) (fun k hk => by omega) h (ck_rwi_lt hP2 i) hR2 hT (fun l => nm_r (nI_1 i) (hh (_, l) (ck_rwi_s hi h))))
end
end
section
/-! addTransformed -/
section
variable {post : Int32 → Prop} {pos2 : St2 → Prop} {pos3 : Int32 → St2 → Prop} {fs fm fc fw : Int32} {a1 a2 a3 a4 a5 a6 a7 a8 a9 a10 a11 a12 a13 a14 : Nat → Int32}
def ck_kd : Nat → Bool := fun q => decide (q / 16 < 3 ∧ q % 16 < 3)
def ck_kr : Nat → Nat := fun q => 3 * (2 - q / 16) + (2 - q % 16)
def ck_pd : Nat → Bool := fun q => decide ((1 ≤ q / 16 ∧ q / 16 ≤ 8) ∧ (1 ≤ q % 16 ∧ q % 16 ≤ 8))
def ck_pr : Nat → Nat := fun q => 8 * (q / 16 - 1) + (q % 16 - 1)
def ck_KP (k : Nat → Int32) (c : Nat) : Nat → Nat := fun q => if q / 16 < 3 ∧ q % 16 < 3 then ck_rd (k (9 * c + ck_kr q)) else 0
def ck_PP (p : Nat → Int32) (c : Nat) : Nat → Nat := fun q => if (1 ≤ q / 16 ∧ q / 16 ≤ 8) ∧ (1 ≤ q % 16 ∧ q % 16 ≤ 8) then ck_rd (p (64 * c + ck_pr q)) else 0
theorem ck_KP_lt (k : Nat → Int32) (c q : Nat) : ck_KP k c q < 7681 := by
  unfold ck_KP
  by_cases h : q / 16 < 3 ∧ q % 16 < 3
  · rw [if_pos h]
    exact ck_rd_lt _
  · rw [if_neg h]
    decide
theorem ck_PP_lt (p : Nat → Int32) (c q : Nat) : ck_PP p c q < 7681 := by
  unfold ck_PP
  by_cases h : (1 ≤ q / 16 ∧ q / 16 ≤ 8) ∧ (1 ≤ q % 16 ∧ q % 16 ≤ 8)
  · rw [if_pos h]
    exact ck_rd_lt _
  · rw [if_neg h]
    decide
def ck_kw (k : Nat → Int32) (c t : Nat) (z : Nat → Int32) : Nat → Int32 := ck_wr ck_kd ck_kr t (fun q => nI (ck_rd (k (9 * c + ck_kr q)))) z
def ck_pw (p : Nat → Int32) (c t : Nat) (z : Nat → Int32) : Nat → Int32 := ck_wr ck_pd ck_pr t (fun q => nI (ck_rd (p (64 * c + ck_pr q)))) z
theorem ck_kw_s {k z : Nat → Int32} {c i j : Nat} (hi : i < 3) (hj : j < 3) : upd (ck_kw k c (3 * j + i) z) (16 * (2 - j) + 2 - i) (nI (ck_rd (k (9 * c + 3 * j + i)))) = ck_kw k c (3 * j + i + 1) z := by
  have e : ck_kr (16 * (2 - j) + 2 - i) = 3 * j + i := by
    unfold ck_kr
    omega
  refine ck_wr_s (decide_eq_true (by omega)) e (fun q hd hr => ?_) (by rw [e, Nat.add_assoc])
  have hd' := of_decide_eq_true hd
  have hr' : 3 * (2 - q / 16) + (2 - q % 16) = 3 * j + i := hr
  omega
theorem ck_pw_s {p z : Nat → Int32} {c x y : Nat} (hx : x < 8) (hy : y < 8) : upd (ck_pw p c (8 * y + x) z) (16 * (y + 1) + x + 1) (nI (ck_rd (p (64 * c + 8 * y + x)))) = ck_pw p c (8 * y + x + 1) z := by
  have e : ck_pr (16 * (y + 1) + x + 1) = 8 * y + x := by
    unfold ck_pr
    omega
  refine ck_wr_s (decide_eq_true (by omega)) e (fun q hd hr => ?_) (by rw [e, Nat.add_assoc])
  have hd' := of_decide_eq_true hd
  have hr' : 8 * (q / 16 - 1) + (q % 16 - 1) = 8 * y + x := hr
  omega
theorem ck_kw_e {k z : Nat → Int32} {c : Nat} (hz : ∀ j, j < 256 → z j = 0) : ∀ j, j < 256 → ck_kw k c 9 z j = nI (ck_KP k c j) := by
  intro j hj
  unfold ck_KP
  by_cases h : j / 16 < 3 ∧ j % 16 < 3
  · rw [if_pos h]
    exact ck_wr_in (decide_eq_true h) (show 3 * (2 - j / 16) + (2 - j % 16) < 9 by omega)
  · rw [if_neg h]
    have e : ck_kw k c 9 z j = z j := ck_wr_out (fun d => absurd (of_decide_eq_true d) h)
    rw [e, hz j hj]
    rfl
theorem ck_pw_e {p z : Nat → Int32} {c : Nat} (hz : ∀ j, j < 256 → z j = 0) : ∀ j, j < 256 → ck_pw p c 64 z j = nI (ck_PP p c j) := by
  intro j hj
  unfold ck_PP
  by_cases h : (1 ≤ j / 16 ∧ j / 16 ≤ 8) ∧ (1 ≤ j % 16 ∧ j % 16 ≤ 8)
  · rw [if_pos h]
    exact ck_wr_in (decide_eq_true h) (show 8 * (j / 16 - 1) + (j % 16 - 1) < 64 by omega)
  · rw [if_neg h]
    have e : ck_pw p c 64 z j = z j := ck_wr_out (fun d => absurd (of_decide_eq_true d) h)
    rw [e, hz j hj]
    rfl
theorem ck_a170 {T A B : Nat → Nat} (hT : ∀ j, j < 256 → a10 j = nI (T j)) (hT2 : ∀ j, T j < 7681) (hA : ∀ j, j < 256 → a8 j = nI (A j)) (hA2 : ∀ j, A j < 7681) (hB : ∀ j, j < 256 → a9 j = nI (B j)) (hB2 : ∀ j, B j < 7681)
    (H : ∀ t, (∀ j, j < 256 → t j = nI ((T j + A j * B j) % 7681)) → pos2 (fs, fm, fc, fw, a1, a2, a3, a4, a5, a6, a7, a8, a9, t, a11, a12, a13, a14)) : ∃ n, wX_addTransformed_170 pos2 fs fm fc fw n 0 a1 a2 a3 a4 a5 a6 a7 a8 a9 a10 a11 a12 a13 a14 := by
  refine ck_loop (fun n i t => wX_addTransformed_170 pos2 fs fm fc fw n (nI i) a1 a2 a3 a4 a5 a6 a7 a8 a9 t a11 a12 a13 a14) (fun i => ck_rg 0 i (fun j => nI ((T j + A j * B j) % 7681)) a10) 256 _ ck_rg_0.symm ?_ ?_
  · intro n
    exact pk_le 256 256 (fun _ => H _ (fun j hj => ck_rg_in ⟨by omega, hj⟩)) (fun z => absurd z (by omega))
  · intro n i hi hh
    have i0 : vp_in (nI i) 256 := pk_in i 256 hi
    have k0 : (nI i).toNatClampNeg = i := nI_clamp (by omega)
    refine pk_le 256 i (fun z => absurd z (by omega)) (fun _ => And.intro i0 <| And.intro i0 <| And.intro i0 <| And.intro ck_p0 <| And.intro i0 <| nm_r (ck_rg_S k0 (by omega) ?_) (nm_r (nI_1 i) hh))
    rw [k0, ck_rg_out (by omega), hT i hi, hA i hi, hB i hi, pk_mul, nI_add]
    have h1 := hT2 i
    have h2 := hA2 i
    have h3 := hB2 i
    have h : A i * B i ≤ 7680 * 7680 := Nat.mul_le_mul (by omega) (by omega)
    exact pk_rem (d := 7681) (by omega) (by decide) (by decide)
theorem ck_a110 {J : Int32 → (Nat → Int32) → (Nat → Int32) → (Nat → Int32) → (Nat → Int32) → (Nat → Int32) → (Nat → Int32) → (Nat → Int32) → (Nat → Int32) → (Nat → Int32) → (Nat → Int32) → (Nat → Int32) → (Nat → Int32) → (Nat → Int32) → (Nat → Int32) → Prop} {c y : Nat} {z : Nat → Int32} (hc : c < 2) (hy : y < 8) (hp : ∀ q, q < 128 → ck_bd (a1 q) 20) (H : J (nI (y + 1)) a1 a2 a3 a4 a5 a6 a7 (ck_pw a1 c (8 * (y + 1)) z) a9 a10 a11 a12 a13 a14) :
    ∃ n, wX_addTransformed_110 pos2 J (nI c) (nI y) fs fm fc fw n 0 a1 a2 a3 a4 a5 a6 a7 (ck_pw a1 c (8 * y) z) a9 a10 a11 a12 a13 a14 := by
  refine ck_loop (fun n x t => wX_addTransformed_110 pos2 J (nI c) (nI y) fs fm fc fw n (nI x) a1 a2 a3 a4 a5 a6 a7 t a9 a10 a11 a12 a13 a14) (fun x => ck_pw a1 c (8 * y + x) z) 8 _ rfl ?_ ?_
  · intro n
    exact pk_le 8 8 (fun _ => nm_r (nI_1 y) H) (fun z => absurd z (by omega))
  · intro n x hx hh
    have e1 : ((64 * nI c) + (8 * nI y)) + nI x = nI (64 * c + 8 * y + x) := ck_ad (ck_ad (ck_ml rfl rfl) (ck_ml rfl rfl)) rfl
    have e2 : ((16 * (nI y + 1)) + nI x) + 1 = nI (16 * (y + 1) + x + 1) := ck_ad (ck_ad (ck_ml rfl (nI_1 y)) rfl) rfl
    have k1 := pk_cl (64 * c + 8 * y + x) e1 (by omega)
    refine pk_le 8 x (fun z => absurd z (by omega)) (fun _ => And.intro (pk_in _ 128 (by omega) e1) ?_)
    rw [k1]
    refine ck_reduce (ck_bd_w (hp _ (by omega)) (by decide)) (And.intro (pk_in _ 256 (by omega) e2) <| nm_r ?_ (nm_r (nI_1 x) hh))
    rw [pk_cl (16 * (y + 1) + x + 1) e2 (by omega)]
    exact ck_pw_s hx hy
theorem ck_a102 {c : Nat} {T B : Nat → Nat} (hc : c < 2) (hp : ∀ q, q < 128 → ck_bd (a1 q) 20) (h12 : ∀ j, j < 16 → a12 j = nI (ck_Rt j)) (hz : ∀ j, j < 256 → a8 j = 0) (hT : ∀ j, j < 256 → a10 j = nI (T j)) (hT2 : ∀ j, T j < 7681) (hB : ∀ j, j < 256 → a9 j = nI (B j)) (hB2 : ∀ j, B j < 7681)
    (H : ∀ p t l, (∀ j, j < 256 → t j = nI ((T j + ck_tf ck_Rt (ck_PP a1 c) j * B j) % 7681)) → pos2 (fs, fm, fc, fw, a1, a2, a3, a4, a5, a6, a7, p, a9, t, l, a12, a13, a14)) : ∃ n, wX_addTransformed_102 pos2 (nI c) fs fm fc fw n 0 a1 a2 a3 a4 a5 a6 a7 a8 a9 a10 a11 a12 a13 a14 := by
  refine ck_loop (fun n y t => wX_addTransformed_102 pos2 (nI c) fs fm fc fw n (nI y) a1 a2 a3 a4 a5 a6 a7 t a9 a10 a11 a12 a13 a14) (fun y => ck_pw a1 c (8 * y) a8) 8 _ ck_wr_0.symm ?_ ?_
  · intro n
    exact pk_le 8 8 (fun _ => ck_transform (R := ck_Rt) (P := ck_PP a1 c) (ck_pw_e hz) (ck_PP_lt a1 c) (fun j => Nat.mod_lt _ (by decide)) (Or.inl ⟨rfl, h12⟩) (fun p l hpl => ck_a170 hT hT2 hpl (ck_col_lt _ _) hB hB2 (fun t ht => H p t l ht))) (fun z => absurd z (by omega))
  · intro n y hy hh
    exact pk_le 8 y (fun z => absurd z (by omega)) (fun _ => ck_a110 hc hy hp hh)
theorem ck_a71 {c : Nat} {T B : Nat → Nat} (hc : c < 2) (hp : ∀ q, q < 128 → ck_bd (a1 q) 20) (h12 : ∀ j, j < 16 → a12 j = nI (ck_Rt j)) (hT : ∀ j, j < 256 → a10 j = nI (T j)) (hT2 : ∀ j, T j < 7681) (hB : ∀ j, j < 256 → a8 j = nI (B j)) (hB2 : ∀ j, B j < 7681)
    (H : ∀ p o t l, (∀ j, j < 256 → t j = nI ((T j + ck_tf ck_Rt (ck_PP a1 c) j * B j) % 7681)) → pos2 (fs, fm, fc, fw, a1, a2, a3, a4, a5, a6, a7, p, o, t, l, a12, a13, a14)) : ∃ n, wX_addTransformed_71 pos2 (nI c) fs fm fc fw n 0 a1 a2 a3 a4 a5 a6 a7 a8 a9 a10 a11 a12 a13 a14 := by
  refine ck_loop (fun n i t => wX_addTransformed_71 pos2 (nI c) fs fm fc fw n (nI i) a1 a2 a3 a4 a5 a6 a7 a8 t a10 a11 a12 a13 a14) (fun i => ck_rg 0 i a8 a9) 256 _ ck_rg_0.symm ?_ ?_
  · intro n
    exact pk_le 256 256 (fun _ => ck_clear (ck_a102 (T := T) (B := B) hc hp h12 (fun j hj => ck_rg_in ⟨by omega, hj⟩) hT hT2 (fun j hj => (ck_rg_in ⟨by omega, hj⟩).trans (hB j hj)) hB2 (fun p t l ht => H p _ t l ht))) (fun z => absurd z (by omega))
  · intro n i hi hh
    have i0 : vp_in (nI i) 256 := pk_in i 256 hi
    have k0 : (nI i).toNatClampNeg = i := nI_clamp (by omega)
    exact pk_le 256 i (fun z => absurd z (by omega)) (fun _ => And.intro i0 <| And.intro i0 <| nm_r (ck_rg_S k0 (by omega) (by rw [k0])) (nm_r (nI_1 i) hh))
theorem ck_a13 {J : Int32 → (Nat → Int32) → (Nat → Int32) → (Nat → Int32) → (Nat → Int32) → (Nat → Int32) → (Nat → Int32) → (Nat → Int32) → (Nat → Int32) → (Nat → Int32) → (Nat → Int32) → (Nat → Int32) → (Nat → Int32) → (Nat → Int32) → (Nat → Int32) → Prop} {c j : Nat} {z : Nat → Int32} (hc : c < 2) (hj : j < 3) (hk : ∀ q, q < 18 → ck_bd (a2 q) 9) (H : J (nI (j + 1)) a1 a2 a3 a4 a5 a6 a7 (ck_kw a2 c (3 * (j + 1)) z) a9 a10 a11 a12 a13 a14) :
    ∃ n, wX_addTransformed_13 pos2 J (nI c) (nI j) fs fm fc fw n 0 a1 a2 a3 a4 a5 a6 a7 (ck_kw a2 c (3 * j) z) a9 a10 a11 a12 a13 a14 := by
  refine ck_loop (fun n i t => wX_addTransformed_13 pos2 J (nI c) (nI j) fs fm fc fw n (nI i) a1 a2 a3 a4 a5 a6 a7 t a9 a10 a11 a12 a13 a14) (fun i => ck_kw a2 c (3 * j + i) z) 3 _ rfl ?_ ?_
  · intro n
    exact pk_le 3 3 (fun _ => nm_r (nI_1 j) H) (fun z => absurd z (by omega))
  · intro n i hi hh
    have e1 : ((9 * nI c) + (3 * nI j)) + nI i = nI (9 * c + 3 * j + i) := ck_ad (ck_ad (ck_ml rfl rfl) (ck_ml rfl rfl)) rfl
    have e2 : ((16 * (2 - nI j)) + 2) - nI i = nI (16 * (2 - j) + 2 - i) := ck_sb (a := 16 * (2 - j) + 2) (b := i) (ck_ad (ck_ml rfl (ck_sb (a := 2) (b := j) rfl rfl (by omega))) rfl) rfl (by omega)
    have k1 := pk_cl (9 * c + 3 * j + i) e1 (by omega)
    refine pk_le 3 i (fun z => absurd z (by omega)) (fun _ => And.intro (pk_in _ 18 (by omega) e1) ?_)
    rw [k1]
    refine ck_reduce (ck_bd_w (hk _ (by omega)) (by decide)) (And.intro (pk_in _ 256 (by omega) e2) <| nm_r ?_ (nm_r (nI_1 i) hh))
    rw [pk_cl (16 * (2 - j) + 2 - i) e2 (by omega)]
    exact ck_kw_s hi hj
theorem ck_a6 {c : Nat} {T : Nat → Nat} (hc : c < 2) (hk : ∀ q, q < 18 → ck_bd (a2 q) 9) (hp : ∀ q, q < 128 → ck_bd (a1 q) 20) (h12 : ∀ j, j < 16 → a12 j = nI (ck_Rt j)) (hz : ∀ j, j < 256 → a8 j = 0) (hT : ∀ j, j < 256 → a10 j = nI (T j)) (hT2 : ∀ j, T j < 7681)
    (H : ∀ p o t l, (∀ j, j < 256 → t j = nI ((T j + ck_tf ck_Rt (ck_PP a1 c) j * ck_tf ck_Rt (ck_KP a2 c) j) % 7681)) → pos2 (fs, fm, fc, fw, a1, a2, a3, a4, a5, a6, a7, p, o, t, l, a12, a13, a14)) : ∃ n, wX_addTransformed_6 pos2 (nI c) fs fm fc fw n 0 a1 a2 a3 a4 a5 a6 a7 a8 a9 a10 a11 a12 a13 a14 := by
  refine ck_loop (fun n j t => wX_addTransformed_6 pos2 (nI c) fs fm fc fw n (nI j) a1 a2 a3 a4 a5 a6 a7 t a9 a10 a11 a12 a13 a14) (fun j => ck_kw a2 c (3 * j) a8) 3 _ ck_wr_0.symm ?_ ?_
  · intro n
    exact pk_le 3 3 (fun _ => ck_transform (R := ck_Rt) (P := ck_KP a2 c) (ck_kw_e hz) (ck_KP_lt a2 c) (fun j => Nat.mod_lt _ (by decide)) (Or.inl ⟨rfl, h12⟩) (fun p l hpl => ck_a71 (T := T) (B := ck_tf ck_Rt (ck_KP a2 c)) hc hp h12 hT hT2 hpl (ck_col_lt _ _) (fun p o t l ht => H p o t l ht))) (fun z => absurd z (by omega))
  · intro n j hj hh
    exact pk_le 3 j (fun z => absurd z (by omega)) (fun _ => ck_a13 hc hj hk hh)
theorem ck_addT {c : Nat} {T : Nat → Nat} (hc : c < 2) (hk : ∀ q, q < 18 → ck_bd (a2 q) 9) (hp : ∀ q, q < 128 → ck_bd (a1 q) 20) (h12 : ∀ j, j < 16 → a12 j = nI (ck_Rt j)) (hT : ∀ j, j < 256 → a10 j = nI (T j)) (hT2 : ∀ j, T j < 7681)
    (H : ∀ p o t l, (∀ j, j < 256 → t j = nI ((T j + ck_tf ck_Rt (ck_PP a1 c) j * ck_tf ck_Rt (ck_KP a2 c) j) % 7681)) → pos2 (fs, fm, fc, fw, a1, a2, a3, a4, a5, a6, a7, p, o, t, l, a12, a13, a14)) : wpX_addTransformed pos2 (fs, fm, fc, fw, a1, a2, a3, a4, a5, a6, a7, a8, a9, a10, a11, a12, a13, a14) (nI c) := by
  unfold wpX_addTransformed
  exact ck_clear (ck_a6 hc hk hp h12 (fun j hj => ck_rg_in ⟨by omega, hj⟩) hT hT2 H)
end
end
section
/-! moveByTransforms; from residues back to the result -/
section
variable {post : Int32 → Prop} {pos2 : St2 → Prop} {pos3 : Int32 → St2 → Prop} {fs fm fc fw : Int32} {a1 a2 a3 a4 a5 a6 a7 a8 a9 a10 a11 a12 a13 a14 : Nat → Int32}
theorem ck_Z_1 (n : Nat) (f : Nat → Int) : ck_Z (n + 1) f = ck_Z n f + f n := rfl
theorem ck_Z_c {f g : Nat → Int} (n : Nat) (h : ∀ q, q < n → f q = g q) : ck_Z n f = ck_Z n g := by
  induction n with
  | zero => rfl
  | succ n ih => rw [ck_Z_1, ck_Z_1, ih (fun q hq => h q (by omega)), h n (by omega)]
theorem ck_Z_ab {f : Nat → Int} (a b : Nat) : ck_Z (a + b) f = ck_Z a f + ck_Z b (fun t => f (a + t)) := by
  induction b with
  | zero => exact (Int.add_zero _).symm
  | succ b ih =>
    show ck_Z (a + b) f + f (a + b) = ck_Z a f + (ck_Z b (fun t => f (a + t)) + f (a + b))
    rw [ih, Int.add_assoc]
theorem ck_mz {a b c d : Int} (h : a % 7681 = b % 7681) (g : c % 7681 = d % 7681) : (a + c) % 7681 = (b + d) % 7681 := by omega
theorem ck_ext_z {f : Nat → Nat → Nat} {g : Nat → Int} (h : ∀ b a, b < 3 → a < 3 → ((f b a : Nat) : Int) % 7681 = g (3 * (2 - b) + (2 - a)) % 7681) :
    ((ck_S 3 (fun b => ck_S 3 (fun a => f b a)) : Nat) : Int) % 7681 = ck_Z 9 g % 7681 := by
  have h00 : ((f 0 0 : Nat) : Int) % 7681 = g 8 % 7681 := h 0 0 (by omega) (by omega)
  have h01 : ((f 0 1 : Nat) : Int) % 7681 = g 7 % 7681 := h 0 1 (by omega) (by omega)
  have h02 : ((f 0 2 : Nat) : Int) % 7681 = g 6 % 7681 := h 0 2 (by omega) (by omega)
  have h10 : ((f 1 0 : Nat) : Int) % 7681 = g 5 % 7681 := h 1 0 (by omega) (by omega)
  have h11 : ((f 1 1 : Nat) : Int) % 7681 = g 4 % 7681 := h 1 1 (by omega) (by omega)
  have h12 : ((f 1 2 : Nat) : Int) % 7681 = g 3 % 7681 := h 1 2 (by omega) (by omega)
  have h20 : ((f 2 0 : Nat) : Int) % 7681 = g 2 % 7681 := h 2 0 (by omega) (by omega)
  have h21 : ((f 2 1 : Nat) : Int) % 7681 = g 1 % 7681 := h 2 1 (by omega) (by omega)
  have h22 : ((f 2 2 : Nat) : Int) % 7681 = g 0 % 7681 := h 2 2 (by omega) (by omega)
  have e := ck_mz (ck_mz (ck_mz (ck_mz (ck_mz (ck_mz (ck_mz (ck_mz h22 h21) h20) h12) h11) h10) h02) h01) h00
  have l : ((ck_S 3 (fun b => ck_S 3 (fun a => f b a)) : Nat) : Int) = ((((((((((f 2 2 : Nat) : Int) + ((f 2 1 : Nat) : Int)) + ((f 2 0 : Nat) : Int)) + ((f 1 2 : Nat) : Int)) + ((f 1 1 : Nat) : Int)) + ((f 1 0 : Nat) : Int)) + ((f 0 2 : Nat) : Int)) + ((f 0 1 : Nat) : Int)) + ((f 0 0 : Nat) : Int)) := by
    show ((((0 + (((0 + f 0 0) + f 0 1) + f 0 2)) + (((0 + f 1 0) + f 1 1) + f 1 2)) + (((0 + f 2 0) + f 2 1) + f 2 2) : Nat) : Int) = _
    omega
  have r : ck_Z 9 g = ((((((((g 0 + g 1) + g 2) + g 3) + g 4) + g 5) + g 6) + g 7) + g 8) := by
    show ((((((((0 + g 0) + g 1) + g 2) + g 3) + g 4) + g 5) + g 6) + g 7) + g 8 = _
    omega
  rw [l, r]
  exact e
/-- the numbers of one layer, as ints -/
def ck_gz (k p : Nat → Int32) (s m x y c : Nat) : Nat → Int := fun t => (ck_at p c ((s : Int) * (x : Int) - (m : Int) + ((t % 3 : Nat) : Int)) ((s : Int) * (y : Int) - (m : Int) + ((t / 3 : Nat) : Int))).toInt * (k (9 * c + t)).toInt
theorem ck_PP_at {p : Nat → Int32} {c u v : Nat} {X Y : Int} (hv : v < 16) (eX : X = (v : Int) - 1) (eY : Y = (u : Int) - 1) : ((ck_PP p c (16 * u + v) : Nat) : Int) = (ck_at p c X Y).toInt % 7681 := by
  unfold ck_PP ck_pr
  rw [show (16 * u + v) / 16 = u by omega, show (16 * u + v) % 16 = v by omega]
  by_cases h : (1 ≤ u ∧ u ≤ 8) ∧ (1 ≤ v ∧ v ≤ 8)
  · rw [if_pos h, ck_rd_z, show X = ((v - 1 : Nat) : Int) by omega, show Y = ((u - 1 : Nat) : Int) by omega, ck_at_p (by omega), Nat.add_assoc]
  · rw [if_neg h, ck_at_n (by omega)]
    decide
theorem ck_KP_at {k : Nat → Int32} {c b a : Nat} (hb : b < 3) (ha : a < 3) : ((ck_KP k c (16 * b + a) : Nat) : Int) = (k (9 * c + (3 * (2 - b) + (2 - a)))).toInt % 7681 := by
  unfold ck_KP ck_kr
  rw [show (16 * b + a) / 16 = b by omega, show (16 * b + a) % 16 = a by omega, if_pos ⟨hb, ha⟩, ck_rd_z]
theorem ck_extz {k p : Nat → Int32} {s m x y c : Nat} (hm : m < 2) (hX : s * x + 3 - m < 16) :
    ((ck_S 3 (fun b => ck_S 3 (fun a => ck_KP k c (16 * b + a) * ck_PP p c (16 * (s * y + 3 - m - b) + (s * x + 3 - m - a)))) : Nat) : Int) % 7681 = ck_Z 9 (ck_gz k p s m x y c) % 7681 := by
  refine ck_ext_z (fun b a hb ha => ?_)
  unfold ck_gz
  rw [Int.natCast_mul, ck_KP_at hb ha, ck_PP_at (X := (s : Int) * (x : Int) - (m : Int) + (((3 * (2 - b) + (2 - a)) % 3 : Nat) : Int)) (Y := (s : Int) * (y : Int) - (m : Int) + (((3 * (2 - b) + (2 - a)) / 3 : Nat) : Int)) (by omega) ?_ ?_, ← Int.mul_emod, Int.mul_comm]
  · rw [← Int.natCast_mul]
    generalize s * x = sx at *
    omega
  · rw [← Int.natCast_mul]
    generalize s * y = sy at *
    omega
theorem ck_R_z {k p : Nat → Int32} {s m x y : Nat} (hk : ∀ q, q < 18 → ck_bd (k q) 9) (hp : ∀ q, q < 128 → ck_bd (p q) 20) :
    ck_bd (ck_R k p s m x y) 3240 ∧ (ck_R k p s m x y).toInt = ck_Z 9 (ck_gz k p s m x y 0) + ck_Z 9 (ck_gz k p s m x y 1) := by
  obtain ⟨h1, h2⟩ := ck_s_bd (f := ck_tm k p s m x y) (B := 20 * 9) 18 (fun q hq => ck_tm_bd hk hp hq) (by decide)
  refine ⟨h1, ?_⟩
  rw [ck_R_tm, h2, ck_Z_ab 9 9]
  congr 1
  · refine ck_Z_c 9 (fun t ht => ?_)
    unfold ck_tm ck_gz
    rw [show t / 9 = 0 by omega, show t % 9 = t by omega, ck_bd_mT (ck_at_bd hp (by omega)) (hk t (by omega)) (by decide), Nat.mul_zero, Nat.zero_add]
  · refine ck_Z_c 9 (fun t ht => ?_)
    unfold ck_tm ck_gz
    rw [show (9 + t) / 9 = 1 by omega, show (9 + t) % 9 = t by omega, ck_bd_mT (ck_at_bd hp (by omega)) (hk (9 + t) (by omega)) (by decide), Nat.mul_one]
theorem ck_fin {k p : Nat → Int32} {T : Nat → Nat} {s m x y v : Nat} (hm : m < 2) (hk : ∀ q, q < 18 → ck_bd (k q) 9) (hp : ∀ q, q < 128 → ck_bd (p q) 20) (hX : s * x + 3 - m < 16) (hY : s * y + 3 - m < 16)
    (hT : ∀ j, j < 256 → ck_cg (T j) (ck_tf ck_Rt (ck_PP p 0) j * ck_tf ck_Rt (ck_KP k 0) j + ck_tf ck_Rt (ck_PP p 1) j * ck_tf ck_Rt (ck_KP k 1) j))
    (hv : v = ck_tf ck_Bk T (16 * (s * y + 3 - m) + (s * x + 3 - m)) * 7651 % 7681) :
    (v ≤ 3840 → nI v = ck_R k p s m x y) ∧ (3840 < v → nI v - 7681 = ck_R k p s m x y) := by
  have zK : ∀ c b a, b < 16 → a < 16 → ¬ (b < 3 ∧ a < 3) → ck_KP k c (16 * b + a) = 0 := by
    intro c b a hb ha h
    unfold ck_KP
    rw [if_neg (by omega)]
  have g := ck_back (K0 := ck_KP k 0) (K1 := ck_KP k 1) (P0 := ck_PP p 0) (P1 := ck_PP p 1) (T := T) (Y := s * y + 3 - m) (X := s * x + 3 - m) (by omega) (by omega) (zK 0) (zK 1) hT
  obtain ⟨r1, r2⟩ := ck_R_z (s := s) (m := m) (x := x) (y := y) hk hp
  have z0 := ck_extz (k := k) (p := p) (s := s) (m := m) (x := x) (y := y) (c := 0) hm hX
  have z1 := ck_extz (k := k) (p := p) (s := s) (m := m) (x := x) (y := y) (c := 1) hm hX
  unfold ck_cg at g
  rw [← hv] at g
  generalize ck_S 3 (fun b => ck_S 3 (fun a => ck_KP k 0 (16 * b + a) * ck_PP p 0 (16 * (s * y + 3 - m - b) + (s * x + 3 - m - a)))) = n0 at *
  generalize ck_S 3 (fun b => ck_S 3 (fun a => ck_KP k 1 (16 * b + a) * ck_PP p 1 (16 * (s * y + 3 - m - b) + (s * x + 3 - m - a)))) = n1 at *
  generalize ck_Z 9 (ck_gz k p s m x y 0) = y0 at *
  generalize ck_Z 9 (ck_gz k p s m x y 1) = y1 at *
  have hv2 : v < 7681 := by rw [hv]; exact Nat.mod_lt _ (by decide)
  unfold ck_bd at r1
  generalize ck_R k p s m x y = r at *
  clear hv hT zK hk hp
  have e : ((v : Int) - r.toInt) % 7681 = 0 := by
    have g' : (v : Int) = ((n0 : Int) + (n1 : Int)) % 7681 := by omega
    have g2 : ((n0 : Int) + (n1 : Int)) % 7681 = (y0 + y1) % 7681 := ck_mz z0 z1
    omega
  constructor
  · intro h
    have t : r.toInt = (v : Int) := by omega
    rw [ck_iOf r, t, ← ck_iN]
  · intro h
    have t : r.toInt = (v : Int) - 7681 := by omega
    rw [ck_iOf r, t, ← ck_is, ← ck_iN]
    rfl
/-! the walk -/
def ck_ow (w : Nat) (t : Nat) (v o : Nat → Int32) : Nat → Int32 := ck_wr (fun q => decide (q % 8 < w)) (fun q => q) t v o
theorem ck_ow_s {w x y : Nat} {v o : Nat → Int32} {k : Nat} {u : Int32} (hx : x < w) (hw : w ≤ 8) (hk : k = 8 * y + x) (hu : u = v (8 * y + x)) : upd (ck_ow w (8 * y + x) v o) k u = ck_ow w (8 * y + x + 1) v o := by
  subst hk
  exact ck_wr_s (decide_eq_true (by omega)) rfl (fun q _ hr => hr) hu
theorem ck_ow_r {w y : Nat} {v o : Nat → Int32} (hw : w ≤ 8) : ck_ow w (8 * y + w) v o = ck_ow w (8 * (y + 1)) v o :=
  ck_wr_e (fun q hd => by
    have h : q % 8 < w := of_decide_eq_true hd
    show q < 8 * y + w ↔ q < 8 * (y + 1)
    omega)
theorem ck_ow_in {w t q : Nat} {v o : Nat → Int32} (h : q % 8 < w) (h2 : q < t) : ck_ow w t v o q = v q := if_pos ⟨decide_eq_true h, h2⟩
theorem ck_ow_out {w t q : Nat} {v o : Nat → Int32} (h : ¬ (q % 8 < w ∧ q < t)) : ck_ow w t v o q = o q := if_neg (fun z => h ⟨of_decide_eq_true z.1, z.2⟩)
def ck_Rq (k p : Nat → Int32) (s m : Nat) : Nat → Int32 := fun q => ck_R k p s m (q % 8) (q / 8)
theorem ck_Y16 {s m y : Nat} (hs : s = 1 ∨ s = 2) (hm : m < 2) (hy : y < ck_wd s m) : s * y + 3 - m < 16 := by
  unfold ck_wd at hy
  rcases hs with rfl | rfl
  · rw [if_pos rfl] at hy
    omega
  · rw [if_neg (by decide)] at hy
    omega
theorem ck_m87 {J : Int32 → (Nat → Int32) → (Nat → Int32) → (Nat → Int32) → (Nat → Int32) → (Nat → Int32) → (Nat → Int32) → (Nat → Int32) → (Nat → Int32) → (Nat → Int32) → (Nat → Int32) → (Nat → Int32) → (Nat → Int32) → (Nat → Int32) → (Nat → Int32) → Prop} {T : Nat → Nat} {s m y : Nat} {o : Nat → Int32} (hs : s = 1 ∨ s = 2) (hm : m < 2) (hy : y < ck_wd s m) (hk : ∀ q, q < 18 → ck_bd (a2 q) 9) (hp : ∀ q, q < 128 → ck_bd (a1 q) 20)
    (hT : ∀ j, j < 256 → ck_cg (T j) (ck_tf ck_Rt (ck_PP a1 0) j * ck_tf ck_Rt (ck_KP a2 0) j + ck_tf ck_Rt (ck_PP a1 1) j * ck_tf ck_Rt (ck_KP a2 1) j)) (h8 : ∀ j, j < 256 → a8 j = nI (ck_tf ck_Bk T j))
    (H : J (nI (y + 1)) a1 a2 (ck_ow (ck_wd s m) (8 * (y + 1)) (ck_Rq a2 a1 s m) o) a4 a5 a6 a7 a8 a9 a10 a11 a12 a13 a14) :
    ∃ n, wX_moveByTransforms_87 pos2 J (nI 7651) (nI y) (nI s) (nI m) fc (nI (ck_wd s m)) n 0 a1 a2 (ck_ow (ck_wd s m) (8 * y) (ck_Rq a2 a1 s m) o) a4 a5 a6 a7 a8 a9 a10 a11 a12 a13 a14 := by
  have hw := ck_wd_le (s := s) hm
  refine ck_loop (fun n x t => wX_moveByTransforms_87 pos2 J (nI 7651) (nI y) (nI s) (nI m) fc (nI (ck_wd s m)) n (nI x) a1 a2 t a4 a5 a6 a7 a8 a9 a10 a11 a12 a13 a14) (fun x => ck_ow (ck_wd s m) (8 * y + x) (ck_Rq a2 a1 s m) o) (ck_wd s m) _ rfl ?_ ?_
  · intro n
    refine pk_le (ck_wd s m) (ck_wd s m) (fun _ => nm_r (nI_1 y) ?_) (fun z => absurd z (by omega))
    show J _ _ _ (ck_ow (ck_wd s m) (8 * y + ck_wd s m) (ck_Rq a2 a1 s m) o) _ _ _ _ _ _ _ _ _ _ _
    rw [ck_ow_r hw.2]
    exact H
  · intro n x hx hh
    have hY := ck_Y16 hs hm hy
    have hX := ck_Y16 hs hm hx
    have f := ck_fin (v := ck_tf ck_Bk T (16 * (s * y + 3 - m) + (s * x + 3 - m)) * 7651 % 7681) hm hk hp hX hY hT rfl
    have hq : ck_Rq a2 a1 s m (8 * y + x) = ck_R a2 a1 s m x y := by
      unfold ck_Rq
      rw [show (8 * y + x) % 8 = x by omega, show (8 * y + x) / 8 = y by omega]
    have e1 : (((16 * (((nI s * nI y) + 3) - nI m)) + (nI s * nI x)) + 3) - nI m = nI (16 * (s * y + 3 - m) + (s * x + 3 - m)) := by
      have t : (((16 * (((nI s * nI y) + 3) - nI m)) + (nI s * nI x)) + 3) - nI m = nI (16 * (s * y + 3 - m) + s * x + 3 - m) := ck_sb (a := 16 * (s * y + 3 - m) + s * x + 3) (b := m) (ck_ad (ck_ad (ck_ml rfl (ck_sb (a := s * y + 3) (b := m) (ck_ad (pk_mul _ _) rfl) rfl (by omega))) (pk_mul _ _)) rfl) rfl (by omega)
      rw [t]
      exact congrArg nI (by omega)
    have e2 : (8 * nI y) + nI x = nI (8 * y + x) := ck_ad (ck_ml rfl rfl) rfl
    have k2 := pk_cl (8 * y + x) e2 (by omega)
    have e3 : a8 (nI (16 * (s * y + 3 - m) + (s * x + 3 - m))).toNatClampNeg * nI 7651 - a8 (nI (16 * (s * y + 3 - m) + (s * x + 3 - m))).toNatClampNeg * nI 7651 / 7681 * 7681 = nI (ck_tf ck_Bk T (16 * (s * y + 3 - m) + (s * x + 3 - m)) * 7651 % 7681) := by
      rw [nI_clamp (by omega), h8 _ (by omega)]
      exact ck_mm (ck_col_lt _ _ _) (by decide)
    have hv : ck_tf ck_Bk T (16 * (s * y + 3 - m) + (s * x + 3 - m)) * 7651 % 7681 < 7681 := Nat.mod_lt _ (by decide)
    refine pk_le (ck_wd s m) x (fun z => absurd z (by omega)) (fun _ => nm_r e1 <| And.intro (pk_in (16 * (s * y + 3 - m) + (s * x + 3 - m)) 256 (by omega)) <| And.intro ck_p0 <| nm_r e3 <| ?_)
    refine pk_le _ 3840 (fun z => And.intro (pk_in _ 64 (by omega) e2) (nm_r (ck_ow_s hx hw.2 k2 ?_) (nm_r (nI_1 x) hh))) (fun z => And.intro (pk_in _ 64 (by omega) e2) (nm_r (ck_ow_s hx hw.2 k2 ?_) (nm_r (nI_1 x) hh))) rfl rfl (by omega) (by omega)
    · rw [hq]
      exact f.1 z
    · rw [hq]
      exact f.2 z
theorem ck_m77 {T : Nat → Nat} {s m : Nat} (hs : s = 1 ∨ s = 2) (hm : m < 2) (hk : ∀ q, q < 18 → ck_bd (a2 q) 9) (hp : ∀ q, q < 128 → ck_bd (a1 q) 20)
    (hT : ∀ j, j < 256 → ck_cg (T j) (ck_tf ck_Rt (ck_PP a1 0) j * ck_tf ck_Rt (ck_KP a2 0) j + ck_tf ck_Rt (ck_PP a1 1) j * ck_tf ck_Rt (ck_KP a2 1) j)) (h8 : ∀ j, j < 256 → a8 j = nI (ck_tf ck_Bk T j))
    (H : ∀ o, (∀ x y, x < ck_wd s m → y < ck_wd s m → o (8 * y + x) = ck_R a2 a1 s m x y) → pos2 (nI s, nI m, fc, nI (ck_wd s m), a1, a2, o, a4, a5, a6, a7, a8, a9, a10, a11, a12, a13, a14)) :
    ∃ n, wX_moveByTransforms_77 pos2 (nI 7651) (nI s) (nI m) fc (nI (ck_wd s m)) n 0 a1 a2 a3 a4 a5 a6 a7 a8 a9 a10 a11 a12 a13 a14 := by
  have hw := ck_wd_le (s := s) hm
  refine ck_loop (fun n y t => wX_moveByTransforms_77 pos2 (nI 7651) (nI s) (nI m) fc (nI (ck_wd s m)) n (nI y) a1 a2 t a4 a5 a6 a7 a8 a9 a10 a11 a12 a13 a14) (fun y => ck_ow (ck_wd s m) (8 * y) (ck_Rq a2 a1 s m) a3) (ck_wd s m) _ ck_wr_0.symm ?_ ?_
  · intro n
    refine pk_le (ck_wd s m) (ck_wd s m) (fun _ => H _ (fun x y hx hy => ?_)) (fun z => absurd z (by omega))
    rw [ck_ow_in (by omega) (by omega)]
    unfold ck_Rq
    rw [show (8 * y + x) % 8 = x by omega, show (8 * y + x) / 8 = y by omega]
  · intro n y hy hh
    exact pk_le (ck_wd s m) y (fun z => absurd z (by omega)) (fun _ => ck_m87 hs hm hy hk hp hT h8 hh)
theorem ck_m34 {T : Nat → Nat} {s m : Nat} (hs : s = 1 ∨ s = 2) (hm : m < 2) (hk : ∀ q, q < 18 → ck_bd (a2 q) 9) (hp : ∀ q, q < 128 → ck_bd (a1 q) 20) (h13 : ∀ j, j < 16 → a13 j = nI (ck_Bk j))
    (hT : ∀ j, j < 256 → ck_cg (T j) (ck_tf ck_Rt (ck_PP a1 0) j * ck_tf ck_Rt (ck_KP a2 0) j + ck_tf ck_Rt (ck_PP a1 1) j * ck_tf ck_Rt (ck_KP a2 1) j)) (hT2 : ∀ j, T j < 7681) (h10 : ∀ j, j < 256 → a10 j = nI (T j))
    (H : ∀ o p l, (∀ x y, x < ck_wd s m → y < ck_wd s m → o (8 * y + x) = ck_R a2 a1 s m x y) → pos2 (nI s, nI m, fc, nI (ck_wd s m), a1, a2, o, a4, a5, a6, a7, p, a9, a10, l, a12, a13, a14)) :
    ∃ n, wX_moveByTransforms_34 pos2 (nI s) (nI m) fc (nI (ck_wd s m)) n 0 a1 a2 a3 a4 a5 a6 a7 a8 a9 a10 a11 a12 a13 a14 := by
  refine ck_loop (fun n i t => wX_moveByTransforms_34 pos2 (nI s) (nI m) fc (nI (ck_wd s m)) n (nI i) a1 a2 a3 a4 a5 a6 a7 t a9 a10 a11 a12 a13 a14) (fun i => ck_rg 0 i a10 a8) 256 _ ck_rg_0.symm ?_ ?_
  · intro n
    refine pk_le 256 256 (fun _ => ck_transform (R := ck_Bk) (P := T) (fun j hj => (ck_rg_in ⟨by omega, hj⟩).trans (h10 j hj)) hT2 (fun j => Nat.mod_lt _ (by decide)) (Or.inr ⟨rfl, h13⟩) (fun p l hpl => ck_power (a := 256) (N := 7679) (by decide) (by decide) ?_)) (fun z => absurd z (by omega))
    rw [ck_pwr_c]
    exact ck_m77 hs hm hk hp hT hpl (fun o ho => H o p l ho)
  · intro n i hi hh
    have i0 : vp_in (nI i) 256 := pk_in i 256 hi
    have k0 : (nI i).toNatClampNeg = i := nI_clamp (by omega)
    exact pk_le 256 i (fun z => absurd z (by omega)) (fun _ => And.intro i0 <| And.intro i0 <| nm_r (ck_rg_S k0 (by omega) (by rw [k0])) (nm_r (nI_1 i) hh))
theorem ck_transforms {s m : Nat} (hs : s = 1 ∨ s = 2) (hm : m < 2) (hk : ∀ q, q < 18 → ck_bd (a2 q) 9) (hp : ∀ q, q < 128 → ck_bd (a1 q) 20) (h12 : ∀ j, j < 16 → a12 j = nI (ck_Rt j)) (h13 : ∀ j, j < 16 → a13 j = nI (ck_Bk j))
    (H : ∀ o p q t l, (∀ x y, x < ck_wd s m → y < ck_wd s m → o (8 * y + x) = ck_R a2 a1 s m x y) → pos2 (nI s, nI m, fc, nI (ck_wd s m), a1, a2, o, a4, a5, a6, a7, p, q, t, l, a12, a13, a14)) :
    wpX_moveByTransforms pos2 (nI s, nI m, fc, nI (ck_wd s m), a1, a2, a3, a4, a5, a6, a7, a8, a9, a10, a11, a12, a13, a14) := by
  refine ck_loop (fun n i t => wX_moveByTransforms_2 pos2 (nI s) (nI m) fc (nI (ck_wd s m)) n (nI i) a1 a2 a3 a4 a5 a6 a7 a8 a9 t a11 a12 a13 a14) (fun i => ck_rg 0 i (fun _ => 0) a10) 256 _ ck_rg_0.symm ?_ ?_
  · intro n
    refine pk_le 256 256 (fun _ => ck_addT (c := 0) (T := fun _ => 0) (by decide) hk hp h12 (fun j hj => ck_rg_in ⟨by omega, hj⟩) (fun j => by decide) (fun p1 q1 t1 l1 ht1 => ?_)) (fun z => absurd z (by omega))
    refine ck_addT (c := 1) (T := fun j => (0 + ck_tf ck_Rt (ck_PP a1 0) j * ck_tf ck_Rt (ck_KP a2 0) j) % 7681) (by decide) hk hp h12 ht1 (fun j => Nat.mod_lt _ (by decide)) (fun p2 q2 t2 l2 ht2 => ?_)
    refine ck_m34 (T := fun j => ((0 + ck_tf ck_Rt (ck_PP a1 0) j * ck_tf ck_Rt (ck_KP a2 0) j) % 7681 + ck_tf ck_Rt (ck_PP a1 1) j * ck_tf ck_Rt (ck_KP a2 1) j) % 7681) hs hm hk hp h13 (fun j hj => ?_) (fun j => Nat.mod_lt _ (by decide)) ht2 (fun o p l ho => H o p q2 t2 l ho)
    refine ck_cg_t (ck_cg_p _) (ck_cg_a (ck_cg_t (ck_cg_p _) ?_) (ck_cg_r _))
    rw [Nat.zero_add]
    exact ck_cg_r _
  · intro n i hi hh
    exact pk_le 256 i (fun z => absurd z (by omega)) (fun _ => And.intro (pk_in i 256 hi) <| nm_r (ck_rg_S (nI_clamp (by omega)) (by omega) rfl) (nm_r (nI_1 i) hh))
end
end
section
/-! move; floor, sum, thin, divide -/
section
variable {post : Int32 → Prop} {pos2 : St2 → Prop} {pos3 : Int32 → St2 → Prop} {fs fm fc fw : Int32} {a1 a2 a3 a4 a5 a6 a7 a8 a9 a10 a11 a12 a13 a14 : Nat → Int32}
theorem ck_m68 {s m z : Nat} (hs : s = 1 ∨ s = 2) (hm : m < 2) (hz : z < 4) (hk : ∀ q, q < 18 → ck_bd (a2 q) 9) (hp : ∀ q, q < 128 → ck_bd (a1 q) 20) (h12 : ∀ j, j < 16 → a12 j = nI (ck_Rt j)) (h13 : ∀ j, j < 16 → a13 j = nI (ck_Bk j)) (ho : ∀ j, j < 64 → a3 j = 0)
    (H : ∀ o p4 p5 p6 p7 p8 p9 p10 p11 p14, (∀ x y, x < ck_wd s m → y < ck_wd s m → o (8 * y + x) = ck_R a2 a1 s m x y) → pos3 (nI (ck_wd s m)) (nI s, nI m, fc, nI (ck_wd s m), a1, a2, o, p4, p5, p6, p7, p8, p9, p10, p11, a12, a13, p14)) :
    wX_move_68 pos3 (nI z) (nI s) (nI m) fc (nI (ck_wd s m)) a1 a2 a3 a4 a5 a6 a7 a8 a9 a10 a11 a12 a13 a14 :=
  pk_eq z 2 (fun _ => ck_transforms hs hm hk hp h12 h13 (fun o p q t l e => H o _ _ _ _ p q t l _ e)) (fun _ => ck_windows hs hm (ck_wd_le hm).2 ho (fun o g e => H o _ _ _ _ _ _ _ _ g e))
theorem ck_m47 {s m z : Nat} (hs : s = 1 ∨ s = 2) (hm : m < 2) (hz : z < 4) (hk : ∀ q, q < 18 → ck_bd (a2 q) 9) (hp : ∀ q, q < 128 → ck_bd (a1 q) 20) (h12 : ∀ j, j < 16 → a12 j = nI (ck_Rt j)) (h13 : ∀ j, j < 16 → a13 j = nI (ck_Bk j)) (ho : ∀ j, j < 64 → a3 j = 0)
    (H : ∀ o p4 p5 p6 p7 p8 p9 p10 p11 p14, (∀ x y, x < ck_wd s m → y < ck_wd s m → o (8 * y + x) = ck_R a2 a1 s m x y) → pos3 (nI (ck_wd s m)) (nI s, nI m, fc, nI (ck_wd s m), a1, a2, o, p4, p5, p6, p7, p8, p9, p10, p11, a12, a13, p14)) :
    wX_move_47 pos3 (nI z) (nI s) (nI m) fc (nI (ck_wd s m)) a1 a2 a3 a4 a5 a6 a7 a8 a9 a10 a11 a12 a13 a14 := by
  refine pk_eq z 1 (fun _ => pk_eq s 1 (fun e => ?_) (fun _ => ck_m68 hs hm hz hk hp h12 h13 ho H)) (fun _ => ck_m68 hs hm hz hk hp h12 h13 ho H)
  subst e
  have e : ck_wd 1 m = 2 * (3 + m) := by
    unfold ck_wd
    rw [if_pos rfl]
    omega
  rw [e] at H ⊢
  exact ck_tiles hm (by omega) hk hp ho (fun o p4 p5 p6 p7 g => H o p4 p5 p6 p7 _ _ _ _ _ g)
theorem ck_move {s m z : Nat} (hs : s = 1 ∨ s = 2) (hm : m < 2) (hz : z < 4) (hk : ∀ q, q < 18 → ck_bd (a2 q) 9) (hp : ∀ q, q < 128 → ck_bd (a1 q) 20) (h12 : ∀ j, j < 16 → a12 j = nI (ck_Rt j)) (h13 : ∀ j, j < 16 → a13 j = nI (ck_Bk j))
    (H : ∀ o p4 p5 p6 p7 p8 p9 p10 p11 p14, (∀ x y, x < ck_wd s m → y < ck_wd s m → o (8 * y + x) = ck_R a2 a1 s m x y) → pos3 (nI (ck_wd s m)) (nI s, nI m, nI z, nI (ck_wd s m), a1, a2, o, p4, p5, p6, p7, p8, p9, p10, p11, a12, a13, p14)) :
    wpX_move pos3 (nI s, nI m, nI z, fw, a1, a2, a3, a4, a5, a6, a7, a8, a9, a10, a11, a12, a13, a14) := by
  unfold wpX_move
  refine ck_widthNow hs hm ?_
  refine ck_loop (fun n i t => wX_move_10 pos3 (nI s) (nI m) (nI z) (nI (ck_wd s m)) n (nI i) a1 a2 t a4 a5 a6 a7 a8 a9 a10 a11 a12 a13 a14) (fun i => ck_rg 0 i (fun _ => 0) a3) 64 _ ck_rg_0.symm ?_ ?_
  · intro n
    exact pk_le 64 64 (fun _ => pk_eq z 0 (fun _ => ck_m47 hs hm (by omega) hk hp h12 h13 (fun j hj => ck_rg_in ⟨by omega, hj⟩) H) (fun _ => ck_m47 hs hm hz hk hp h12 h13 (fun j hj => ck_rg_in ⟨by omega, hj⟩) H)) (fun z => absurd z (by omega))
  · intro n i hi hh
    exact pk_le 64 i (fun z => absurd z (by omega)) (fun _ => And.intro (pk_in i 64 hi) <| nm_r (ck_rg_S (nI_clamp (by omega)) (by omega) rfl) (nm_r (nI_1 i) hh))
/-! floor -/
def ck_ng (v : Int32) : Int32 := if 0 ≤ v then 0 else 1
def ck_ps (v : Int32) : Int32 := if 0 ≤ v then v else 0
theorem ck_upd_id {f : Nat → Int32} {k : Nat} {x : Int32} (h : x = f k) : upd f k x = f := by
  funext q
  show (if q = k then x else f q) = f q
  by_cases e : q = k
  · rw [if_pos e, h, e]
  · rw [if_neg e]
theorem ck_f14 {J : Int32 → Int32 → (Nat → Int32) → (Nat → Int32) → (Nat → Int32) → (Nat → Int32) → (Nat → Int32) → (Nat → Int32) → (Nat → Int32) → (Nat → Int32) → (Nat → Int32) → (Nat → Int32) → (Nat → Int32) → (Nat → Int32) → (Nat → Int32) → (Nat → Int32) → Prop} {w y : Nat} {o : Nat → Int32} {c : Int32} (hw : w ≤ 8) (hy : y < w)
    (H : J (c + ck_s w (fun x => ck_ng (o (8 * y + x)))) (nI (y + 1)) a1 a2 (ck_ow w (8 * (y + 1)) (fun q => ck_ps (o q)) o) a4 a5 a6 a7 a8 a9 a10 a11 a12 a13 a14) :
    ∃ n, wX_floor_14 pos3 J (nI y) fs fm fc (nI w) n c 0 a1 a2 (ck_ow w (8 * y) (fun q => ck_ps (o q)) o) a4 a5 a6 a7 a8 a9 a10 a11 a12 a13 a14 := by
  refine ck_loop (σ := Int32 × (Nat → Int32)) (fun n x t => wX_floor_14 pos3 J (nI y) fs fm fc (nI w) n t.1 (nI x) a1 a2 t.2 a4 a5 a6 a7 a8 a9 a10 a11 a12 a13 a14) (fun x => (c + ck_s x (fun x => ck_ng (o (8 * y + x))), ck_ow w (8 * y + x) (fun q => ck_ps (o q)) o)) w (c, ck_ow w (8 * y) (fun q => ck_ps (o q)) o) (by show _ = (c + 0, _); rw [Int32.add_zero]; rfl) ?_ ?_
  · intro n
    refine pk_le w w (fun _ => nm_r (nI_1 y) ?_) (fun z => absurd z (by omega))
    show J _ _ _ _ (ck_ow w (8 * y + w) (fun q => ck_ps (o q)) o) _ _ _ _ _ _ _ _ _ _ _
    rw [ck_ow_r hw]
    exact H
  · intro n x hx hh
    have ei : 8 * nI y + nI x = nI (8 * y + x) := ck_ad (ck_ml rfl rfl) rfl
    have k := pk_cl (8 * y + x) ei (by omega)
    have i0 := pk_in (8 * y + x) 64 (by omega) ei
    have er : ck_ow w (8 * y + x) (fun q => ck_ps (o q)) o (8 * y + x) = o (8 * y + x) := ck_ow_out (by omega)
    refine pk_le w x (fun z => absurd z (by omega)) (fun _ => And.intro i0 ?_)
    rw [k]
    refine br_c (fun g => ?_) (fun g => ?_)
    · have g' : 0 ≤ o (8 * y + x) := er ▸ g
      have e1 : ck_ng (o (8 * y + x)) = 0 := if_pos g'
      have e2 : ck_ow w (8 * y + x + 1) (fun q => ck_ps (o q)) o = ck_ow w (8 * y + x) (fun q => ck_ps (o q)) o := by
        rw [← ck_ow_s (v := fun q => ck_ps (o q)) (o := o) hx hw rfl rfl]
        refine ck_upd_id ?_
        rw [er]
        exact if_pos g'
      have hh' : wX_floor_14 pos3 J (nI y) fs fm fc (nI w) n (c + (ck_s x (fun x => ck_ng (o (8 * y + x))) + ck_ng (o (8 * y + x)))) (nI (x + 1)) a1 a2 (ck_ow w (8 * y + x + 1) (fun q => ck_ps (o q)) o) a4 a5 a6 a7 a8 a9 a10 a11 a12 a13 a14 := hh
      rw [e2, e1, Int32.add_zero] at hh'
      exact nm_r (nI_1 x) hh'
    · have g' : ¬ 0 ≤ o (8 * y + x) := er ▸ g
      have e1 : ck_ng (o (8 * y + x)) = 1 := if_neg g'
      have e2 : ck_ps (o (8 * y + x)) = 0 := if_neg g'
      have hh' : wX_floor_14 pos3 J (nI y) fs fm fc (nI w) n (c + (ck_s x (fun x => ck_ng (o (8 * y + x))) + ck_ng (o (8 * y + x)))) (nI (x + 1)) a1 a2 (ck_ow w (8 * y + x + 1) (fun q => ck_ps (o q)) o) a4 a5 a6 a7 a8 a9 a10 a11 a12 a13 a14 := hh
      rw [e1, ← Int32.add_assoc] at hh'
      exact And.intro i0 (nm_r (ck_ow_s hx hw rfl e2.symm) (nm_e (nm_r (nI_1 x) hh')))
theorem ck_floor {w : Nat} (hw : w ≤ 8) (H : pos3 (ck_s w (fun y => ck_s w (fun x => ck_ng (a3 (8 * y + x))))) (fs, fm, fc, nI w, a1, a2, ck_ow w (8 * w) (fun q => ck_ps (a3 q)) a3, a4, a5, a6, a7, a8, a9, a10, a11, a12, a13, a14)) : wpX_floor pos3 (fs, fm, fc, nI w, a1, a2, a3, a4, a5, a6, a7, a8, a9, a10, a11, a12, a13, a14) := by
  refine ck_loop (σ := Int32 × (Nat → Int32)) (fun n y t => wX_floor_4 pos3 fs fm fc (nI w) n t.1 (nI y) a1 a2 t.2 a4 a5 a6 a7 a8 a9 a10 a11 a12 a13 a14) (fun y => (ck_s y (fun y => ck_s w (fun x => ck_ng (a3 (8 * y + x)))), ck_ow w (8 * y) (fun q => ck_ps (a3 q)) a3)) w (0, a3) (by show _ = (0, ck_ow w 0 _ _); rw [show ck_ow w 0 (fun q => ck_ps (a3 q)) a3 = a3 from ck_wr_0]) ?_ ?_
  · intro n
    exact pk_le w w (fun _ => H) (fun z => absurd z (by omega))
  · intro n y hy hh
    exact pk_le w y (fun z => absurd z (by omega)) (fun _ => ck_f14 hw hy hh)
/-! sum -/
theorem ck_s14 {J : Int32 → Int32 → Prop} {w y : Nat} {c : Int32} (hw : w ≤ 8) (hy : y < w) (H : J (c + ck_s w (fun x => a3 (8 * y + x))) (nI (y + 1))) : ∃ n, wX_sum_14 post J (nI y) fs fm fc (nI w) a1 a2 a3 a4 a5 a6 a7 a8 a9 a10 a11 a12 a13 a14 n c 0 := by
  refine ck_loop (fun n x t => wX_sum_14 post J (nI y) fs fm fc (nI w) a1 a2 a3 a4 a5 a6 a7 a8 a9 a10 a11 a12 a13 a14 n t (nI x)) (fun x => c + ck_s x (fun x => a3 (8 * y + x))) w c (by show c = c + 0; rw [Int32.add_zero]) ?_ ?_
  · intro n
    exact pk_le w w (fun _ => nm_r (nI_1 y) H) (fun z => absurd z (by omega))
  · intro n x hx hh
    have ei : 8 * nI y + nI x = nI (8 * y + x) := ck_ad (ck_ml rfl rfl) rfl
    refine pk_le w x (fun z => absurd z (by omega)) (fun _ => And.intro (pk_in (8 * y + x) 64 (by omega) ei) (nm_r ?_ (nm_r (nI_1 x) hh)))
    rw [pk_cl (8 * y + x) ei (by omega), Int32.add_assoc]
    rfl
theorem ck_sum {w : Nat} (hw : w ≤ 8) (H : post (ck_s w (fun y => ck_s w (fun x => a3 (8 * y + x))))) : wpX_sum post (fs, fm, fc, nI w, a1, a2, a3, a4, a5, a6, a7, a8, a9, a10, a11, a12, a13, a14) := by
  refine ck_loop (fun n y t => wX_sum_4 post fs fm fc (nI w) a1 a2 a3 a4 a5 a6 a7 a8 a9 a10 a11 a12 a13 a14 n t (nI y)) (fun y => ck_s y (fun y => ck_s w (fun x => a3 (8 * y + x)))) w 0 rfl ?_ ?_
  · intro n
    exact pk_le w w (fun _ => H) (fun z => absurd z (by omega))
  · intro n y hy hh
    exact pk_le w y (fun z => absurd z (by omega)) (fun _ => ck_s14 hw hy hh)
/-! thin: only the first place matters -/
def ck_M4 (o : Nat → Int32) : Int32 := ck_mx (ck_mx (o 0) (o 1)) (ck_mx (o 8) (o 9))
theorem ck_th16 {J : Int32 → (Nat → Int32) → (Nat → Int32) → (Nat → Int32) → (Nat → Int32) → (Nat → Int32) → (Nat → Int32) → (Nat → Int32) → (Nat → Int32) → (Nat → Int32) → (Nat → Int32) → (Nat → Int32) → (Nat → Int32) → (Nat → Int32) → (Nat → Int32) → Prop} {h y : Nat} {o : Nat → Int32} (h0 : 1 ≤ h) (hh : h ≤ 4) (hy : y < h) (g1 : y = 0 → a3 = o) (g2 : 0 < y → a3 0 = ck_M4 o)
    (H : ∀ o', o' 0 = ck_M4 o → J (nI (y + 1)) a1 a2 o' a4 a5 a6 a7 a8 a9 a10 a11 a12 a13 a14) : ∃ n, wX_thin_16 pos3 J (nI h) (nI y) fs fm fc fw n 0 a1 a2 a3 a4 a5 a6 a7 a8 a9 a10 a11 a12 a13 a14 := by
  refine pk_loop (fun n x t => wX_thin_16 pos3 J (nI h) (nI y) fs fm fc fw n (nI x) a1 a2 t a4 a5 a6 a7 a8 a9 a10 a11 a12 a13 a14) (fun x t => (y = 0 ∧ x = 0 → t = o) ∧ (0 < y ∨ 0 < x → t 0 = ck_M4 o)) h 0 a3 (by omega) ⟨fun z => g1 z.1, fun z => g2 (by omega)⟩ ?_ ?_
  · intro n t ht
    exact pk_le h h (fun _ => nm_r (nI_1 y) (H t (ht.2 (by omega)))) (fun z => absurd z (by omega))
  · intro n x t hx ht hk
    have e0 : (16 * nI y) + (2 * nI x) = nI (16 * y + 2 * x) := ck_ad (ck_ml rfl rfl) (ck_ml rfl rfl)
    have e1 : nI (16 * y + 2 * x) + 1 = nI (16 * y + 2 * x + 1) := nI_1 _
    have e8 : nI (16 * y + 2 * x) + 8 = nI (16 * y + 2 * x + 8) := ck_ad rfl rfl
    have e9 : nI (16 * y + 2 * x) + 9 = nI (16 * y + 2 * x + 9) := ck_ad rfl rfl
    have ei : 8 * nI y + nI x = nI (8 * y + x) := ck_ad (ck_ml rfl rfl) rfl
    refine pk_le h x (fun z => absurd z (by omega)) (fun _ => nm_r e0 <| And.intro (pk_in (16 * y + 2 * x) 64 (by omega)) <| And.intro (pk_in (16 * y + 2 * x + 1) 64 (by omega) e1) <| ck_greater <| And.intro (pk_in (16 * y + 2 * x + 8) 64 (by omega) e8) <| And.intro (pk_in (16 * y + 2 * x + 9) 64 (by omega) e9) <| ck_greater <| ck_greater <| And.intro (pk_in (8 * y + x) 64 (by omega) ei) <| nm_e <| nm_r (nI_1 x) <| hk _ ⟨fun z => absurd z.2 (by omega), fun _ => ?_⟩)
    rw [pk_cl (8 * y + x) ei (by omega), nI_clamp (by omega), pk_cl (16 * y + 2 * x + 1) e1 (by omega), pk_cl (16 * y + 2 * x + 8) e8 (by omega), pk_cl (16 * y + 2 * x + 9) e9 (by omega)]
    by_cases z : y = 0 ∧ x = 0
    · rw [ht.1 z, z.1, z.2]
      rfl
    · rw [pk_un (by omega)]
      exact ht.2 (by omega)
theorem ck_thin {w : Nat} (hw : 2 ≤ w ∧ w ≤ 8) (H : ∀ o, o 0 = ck_M4 a3 → pos3 (nI (w / 2)) (fs, fm, fc, nI (w / 2), a1, a2, o, a4, a5, a6, a7, a8, a9, a10, a11, a12, a13, a14)) : wpX_thin pos3 (fs, fm, fc, nI w, a1, a2, a3, a4, a5, a6, a7, a8, a9, a10, a11, a12, a13, a14) := by
  refine nm_r (pk_shrN (by omega) _ 1 (by decide)) ?_
  refine pk_loop (fun n y t => wX_thin_9 pos3 (nI (w / 2)) fs fm fc (nI w) n (nI y) a1 a2 t a4 a5 a6 a7 a8 a9 a10 a11 a12 a13 a14) (fun y t => (y = 0 → t = a3) ∧ (0 < y → t 0 = ck_M4 a3)) (w / 2) 0 a3 (by omega) ⟨fun _ => rfl, fun z => absurd z (by omega)⟩ ?_ ?_
  · intro n t ht
    exact pk_le (w / 2) (w / 2) (fun _ => H t (ht.2 (by omega))) (fun z => absurd z (by omega))
  · intro n y t hy ht hk
    exact pk_le (w / 2) y (fun z => absurd z (by omega)) (fun _ => ck_th16 (by omega) (by omega) hy ht.1 ht.2 (fun o' ho' => hk o' ⟨fun z => absurd z (by omega), fun _ => ho'⟩))
theorem ck_divide (H : pos3 fw (fs, fm, fc, fw, a1, a2, ck_rg 0 64 (fun j => a3 j / 3) a3, a4, a5, a6, a7, a8, a9, a10, a11, a12, a13, a14)) : wpX_divide pos3 (fs, fm, fc, fw, a1, a2, a3, a4, a5, a6, a7, a8, a9, a10, a11, a12, a13, a14) 3 := by
  refine br_f (by decide) (br_t (by decide) ?_)
  refine ck_loop (fun n i t => wX_divide_16 pos3 3 fs fm fc fw n (nI i) a1 a2 t a4 a5 a6 a7 a8 a9 a10 a11 a12 a13 a14) (fun i => ck_rg 0 i (fun j => a3 j / 3) a3) 64 _ ck_rg_0.symm ?_ ?_
  · intro n
    exact pk_le 64 64 (fun _ => H) (fun z => absurd z (by omega))
  · intro n i hi hh
    have i0 : vp_in (nI i) 64 := pk_in i 64 hi
    have k0 : (nI i).toNatClampNeg = i := nI_clamp (by omega)
    refine pk_le 64 i (fun z => absurd z (by omega)) (fun _ => And.intro i0 <| And.intro (by decide) <| And.intro i0 <| nm_r (ck_rg_S k0 (by omega) ?_) (nm_r (nI_1 i) hh))
    rw [k0, ck_rg_out (by omega)]
end
end
section
/-! the law: what follows the move -/
section
variable {post : Int32 → Prop} {posL : Int32 → St0 → Prop} {mc ms kc ks : Nat} {x5 x6 x7 x8 x9 x10 x11 x12 x13 x16 x18 x19 x20 x21 x26 x27 z0 z1 r : Int32} {J1 J2 : Int32 → Int32 → Int32 → Int32 → Prop} {fs fm fc fw : Int32} {a1 a2 a3 a4 a5 a6 a7 a8 a9 a10 a11 a12 a13 a14 : Nat → Int32}
theorem ck_res_in {x y w : Nat} (hx : x < w) (hy : y < w) (hw : w ≤ 8) (H : post (a3 (8 * y + x))) : wpX_result post (fs, fm, fc, nI w, a1, a2, a3, a4, a5, a6, a7, a8, a9, a10, a11, a12, a13, a14) (nI x) (nI y) :=
  ck_result (by omega) (by omega) hw (by rw [if_pos ⟨hx, hy⟩]; exact H)
/-! the end -/
theorem ck_646 {L : Nat} {M : Int32} (hL : L < 2) (hz : z1 = M / 3) (h1 : a1 (64 * (1 - L)) = 0) (H : posL 1 ()) : wL_lawOf_646 posL mc ms (nI L) M z1 kc ks fs fm fc fw a1 a2 a3 a4 a5 a6 a7 a8 a9 a10 a11 a12 a13 a14 := by
  have e : 64 * (1 - nI L) = nI (64 * (1 - L)) := ck_ml rfl (ck_sb (a := 1) (b := L) rfl rfl (by omega))
  unfold wL_lawOf_646
  rw [e]
  exact And.intro (by decide) (br_t hz (ck_pixel (by omega) (br_t h1 H)))
theorem ck_580 {L w : Nat} (hL : L < 2) (hw : 2 ≤ w ∧ w ≤ 8) (h20 : x20 = x18) (h21 : x21 = x19) (ho : a3 0 = ck_mx x27 z0) (h1 : a1 (64 * (1 - L)) = 0) (H : posL 1 ()) :
    wL_lawOf_580 posL mc ms (nI L) (nI w) 1 x18 x19 x20 x21 (nI (w / 2)) x27 z0 kc ks fs fm fc (nI (w / 2)) a1 a2 a3 a4 a5 a6 a7 a8 a9 a10 a11 a12 a13 a14 := by
  unfold wL_lawOf_580
  refine ck_divide (br_f (by decide) (br_t h20 (br_t h21 (And.intro (by decide) (br_t ?_ (br_t rfl (ck_res_in (x := 0) (y := 0) (by omega) (by omega) (by omega) ?_)))))))
  · exact (pk_div (d := 2) (by omega) (by decide) (by decide)).symm
  · have e : ck_rg 0 64 (fun j => a3 j / 3) a3 (8 * 0 + 0) = ck_mx x27 z0 / 3 := (ck_rg_in ⟨by omega, by omega⟩).trans (by rw [← ho])
    refine br_c (fun g => ck_646 hL ?_ h1 H) (fun g => ck_646 hL ?_ h1 H)
    · rw [e]
      unfold ck_mx
      rw [if_pos g]
    · rw [e]
      unfold ck_mx
      rw [if_neg g]
theorem ck_564 {L w : Nat} {x24 x25 : Int32} (hL : L < 2) (hw : 2 ≤ w ∧ w ≤ 8) (h20 : x20 = x18) (h21 : x21 = x19) (ho : a3 0 = ck_mx z0 (ck_mx x24 x25)) (h1 : a1 (64 * (1 - L)) = 0) (H : posL 1 ()) :
    wL_lawOf_564 posL mc ms (nI L) (nI w) 1 x18 x19 x20 x21 x24 x25 (nI (w / 2)) z0 kc ks fs fm fc (nI (w / 2)) a1 a2 a3 a4 a5 a6 a7 a8 a9 a10 a11 a12 a13 a14 := by
  unfold wL_lawOf_564
  refine br_c (fun g => ck_580 hL hw h20 h21 ?_ h1 H) (fun g => ck_580 hL hw h20 h21 ?_ h1 H)
  · rw [ho, show ck_mx x24 x25 = x25 from if_pos g]
  · rw [ho, show ck_mx x24 x25 = x24 from if_neg g]
/-! one place of the 8 by 8 -/
theorem ck_446 {x : Nat} (H : J2 1 (x18 + ck_ng r) (x19 + ck_ps r) (nI (x + 1))) : wL_lawOf_446 posL mc ms J1 J2 x5 x6 x7 x8 x9 x10 x11 x12 x13 x16 x18 x19 x20 (nI x) r 1 kc ks fs fm fc fw a1 a2 a3 a4 a5 a6 a7 a8 a9 a10 a11 a12 a13 a14 := by
  unfold wL_lawOf_446 wL_lawOf_462
  refine br_c (fun g => br_t g ?_) (fun g => br_f g ?_)
  · rw [show ck_ng r = 0 from if_pos g, show ck_ps r = r from if_pos g, Int32.add_zero] at H
    exact nm_e (nm_r (nI_1 x) H)
  · rw [show ck_ng r = 1 from if_neg g, show ck_ps r = 0 from if_neg g, Int32.add_zero] at H
    exact nm_r (nI_1 x) H
theorem ck_441 {x : Nat} (H : J2 1 (x18 + ck_ng r) (x19 + ck_ps r) (nI (x + 1))) : wL_lawOf_441 posL mc ms J1 J2 x5 x6 x7 x8 x9 x10 x11 x12 x13 x16 x18 x19 x20 (nI x) r kc ks fs fm fc fw a1 a2 a3 a4 a5 a6 a7 a8 a9 a10 a11 a12 a13 a14 := by
  unfold wL_lawOf_441
  exact ck_446 H
theorem ck_422 {x y w : Nat} (hx : x < 8) (hy : y < 8) (hw : w ≤ 8) (hr : ¬ (x < w ∧ y < w) → r = 0) (H : J2 1 (x18 + ck_ng r) (x19 + ck_ps r) (nI (x + 1))) :
    wL_lawOf_422 posL mc ms J1 J2 x5 x6 x7 x8 x9 x10 x11 x12 x13 (nI w) x18 x19 (nI y) (nI x) r kc ks fs fm fc fw a1 a2 a3 a4 a5 a6 a7 a8 a9 a10 a11 a12 a13 a14 := by
  unfold wL_lawOf_422 wL_lawOf_436
  exact pk_le w x (fun z => br_t (hr (by omega)) (ck_441 H)) (fun z => pk_lt y w (fun _ => ck_441 H) (fun z2 => br_t (hr (by omega)) (ck_441 H)))
def ck_G (w : Nat) (o : Nat → Int32) (y x : Nat) : Int32 := if x < w ∧ y < w then o (8 * y + x) else 0
theorem ck_355 {x y w : Nat} (hx : x < 8) (hy : y < 8) (hw : w ≤ 8) (hz : z0 = 0 ∨ ck_G w a3 y x = ((x11 * ((x5 + ((x6 * x8) * nI x)) + ((x7 * x8) * nI y))) + (x6 * x12)) + (x7 * x13))
    (H : J2 1 (x18 + ck_ng (ck_G w a3 y x)) (x19 + ck_ps (ck_G w a3 y x)) (nI (x + 1))) :
    wL_lawOf_355 posL mc ms J1 J2 x5 x6 x7 x8 x9 x10 x11 x12 x13 (nI w) 1 x18 x19 (nI y) (nI x) z0 kc ks fs fm fc (nI w) a1 a2 a3 a4 a5 a6 a7 a8 a9 a10 a11 a12 a13 a14 := by
  have h4 : wL_lawOf_422 posL mc ms J1 J2 x5 x6 x7 x8 x9 x10 x11 x12 x13 (nI w) x18 x19 (nI y) (nI x) (ck_G w a3 y x) kc ks fs fm fc (nI w) a1 a2 a3 a4 a5 a6 a7 a8 a9 a10 a11 a12 a13 a14 := ck_422 hx hy hw (fun z => if_neg z) H
  unfold wL_lawOf_355
  refine nm_e (ck_result hx hy hw (br_f (by decide) ?_))
  rcases hz with e | e
  · exact br_t e h4
  · exact br_c (fun _ => h4) (fun _ => br_t e h4)
theorem ck_354 {x y w : Nat} (hx : x < 8) (hy : y < 8) (hw : w ≤ 8)
    (H : J2 1 (x18 + ck_ng (ck_G w a3 y x)) (x19 + ck_ps (ck_G w a3 y x)) (nI (x + 1))) :
    wL_lawOf_354 posL mc ms J1 J2 x5 x6 x7 x8 x9 x10 x11 x12 x13 (nI w) 1 x18 x19 (nI y) (nI x) kc ks fs fm fc (nI w) a1 a2 a3 a4 a5 a6 a7 a8 a9 a10 a11 a12 a13 a14 := by
  unfold wL_lawOf_354
  exact ck_355 hx hy hw (Or.inl rfl) H
/-! a row -/
theorem ck_281 {s m w y : Nat} (hs : s = 1 ∨ s = 2) (hm : m < 2) (hw : w ≤ 8) (hy : y < 8)
    (hd : ∀ x, x < w → y < w → 0 ≤ (s : Int) * (x : Int) - (m : Int) → (s : Int) * (x : Int) - (m : Int) < 6 → 0 ≤ (s : Int) * (y : Int) - (m : Int) → (s : Int) * (y : Int) - (m : Int) < 6 → a3 (8 * y + x) = ((x11 * ((x5 + ((x6 * nI s) * nI x)) + ((x7 * nI s) * nI y))) + (x6 * x12)) + (x7 * x13))
    (H : J1 1 (x18 + ck_s 8 (fun x => ck_ng (ck_G w a3 y x))) (x19 + ck_s 8 (fun x => ck_ps (ck_G w a3 y x))) (nI (y + 1))) :
    ∃ n, wL_lawOf_281 posL mc ms J1 x5 x6 x7 (nI s) (nI m) x10 x11 x12 x13 (nI w) (nI y) kc ks fs fm fc (nI w) a1 a2 a3 a4 a5 a6 a7 a8 a9 a10 a11 a12 a13 a14 n 1 x18 x19 0 := by
  refine ck_loop (σ := Int32 × Int32) (fun n x t => wL_lawOf_281 posL mc ms J1 x5 x6 x7 (nI s) (nI m) x10 x11 x12 x13 (nI w) (nI y) kc ks fs fm fc (nI w) a1 a2 a3 a4 a5 a6 a7 a8 a9 a10 a11 a12 a13 a14 n 1 t.1 t.2 (nI x)) (fun x => (x18 + ck_s x (fun x => ck_ng (ck_G w a3 y x)), x19 + ck_s x (fun x => ck_ps (ck_G w a3 y x)))) 8 (x18, x19) (by show _ = (x18 + 0, x19 + 0); rw [Int32.add_zero, Int32.add_zero]) ?_ ?_
  · intro n
    exact pk_le 8 8 (fun _ => nm_r (nI_1 y) H) (fun z => absurd z (by omega))
  · intro n x hx hh
    have e1 : nI s * nI x - nI m = ck_i ((s : Int) * (x : Int) - (m : Int)) := ck_sbI (ck_mlI (ck_iN s) (ck_iN x)) (ck_iN m)
    have e2 : nI s * nI y - nI m = ck_i ((s : Int) * (y : Int) - (m : Int)) := ck_sbI (ck_mlI (ck_iN s) (ck_iN y)) (ck_iN m)
    have b1 : -10 ≤ (s : Int) * (x : Int) - (m : Int) ∧ (s : Int) * (x : Int) - (m : Int) ≤ 20 := by rcases hs with rfl | rfl <;> omega
    have b2 : -10 ≤ (s : Int) * (y : Int) - (m : Int) ∧ (s : Int) * (y : Int) - (m : Int) ≤ 20 := by rcases hs with rfl | rfl <;> omega
    have hh' : wL_lawOf_281 posL mc ms J1 x5 x6 x7 (nI s) (nI m) x10 x11 x12 x13 (nI w) (nI y) kc ks fs fm fc (nI w) a1 a2 a3 a4 a5 a6 a7 a8 a9 a10 a11 a12 a13 a14 n 1 (x18 + ck_s x (fun x => ck_ng (ck_G w a3 y x)) + ck_ng (ck_G w a3 y x)) (x19 + ck_s x (fun x => ck_ps (ck_G w a3 y x)) + ck_ps (ck_G w a3 y x)) (nI (x + 1)) := by
      rw [Int32.add_assoc, Int32.add_assoc]
      exact hh
    have d : wL_lawOf_354 posL mc ms J1 (wL_lawOf_281 posL mc ms J1 x5 x6 x7 (nI s) (nI m) x10 x11 x12 x13 (nI w) (nI y) kc ks fs fm fc (nI w) a1 a2 a3 a4 a5 a6 a7 a8 a9 a10 a11 a12 a13 a14 n) x5 x6 x7 (nI s) (nI m) x10 x11 x12 x13 (nI w) 1 (x18 + ck_s x (fun x => ck_ng (ck_G w a3 y x))) (x19 + ck_s x (fun x => ck_ps (ck_G w a3 y x))) (nI y) (nI x) kc ks fs fm fc (nI w) a1 a2 a3 a4 a5 a6 a7 a8 a9 a10 a11 a12 a13 a14 := ck_354 hx hy hw hh'
    refine pk_le 8 x (fun z => absurd z (by omega)) (fun _ => pk_le w x (fun _ => d) (fun h1 => pk_le w y (fun _ => d) (fun h2 => ck_lt ((s : Int) * (x : Int) - (m : Int)) 0 (fun _ => d) (fun h3 => ck_le 6 ((s : Int) * (x : Int) - (m : Int)) (fun _ => d) (fun h4 => ck_lt ((s : Int) * (y : Int) - (m : Int)) 0 (fun _ => d) (fun h5 => ck_le 6 ((s : Int) * (y : Int) - (m : Int)) (fun _ => d) (fun h6 => ck_355 hx hy hw (Or.inr ?_) hh') (by decide) e2 (by omega) (by omega)) e2 (by decide) (by omega) (by omega)) (by decide) e1 (by omega) (by omega)) e1 (by decide) (by omega) (by omega))))
    rw [show ck_G w a3 y x = a3 (8 * y + x) from if_pos ⟨h1, h2⟩]
    exact hd x h1 h2 h3 h4 h5 h6
theorem ck_cnt {w : Nat} {o : Nat → Int32} {f : Int32 → Int32} (hw : w ≤ 8) (h0 : f 0 = 0) : ck_s 8 (fun y => ck_s 8 (fun x => f (ck_G w o y x))) = ck_s w (fun y => ck_s w (fun x => f (o (8 * y + x)))) := by
  have z : ∀ y x, ¬ (x < w ∧ y < w) → f (ck_G w o y x) = 0 := fun y x h => by
    rw [show ck_G w o y x = 0 from if_neg h, h0]
  have t : ∀ y, ck_s 8 (fun x => f (ck_G w o y x)) = ck_s w (fun x => f (ck_G w o y x)) := fun y => ck_s_tail w 8 hw (fun q h1 h2 => z y q (by omega))
  have t0 : ∀ y, w ≤ y → ck_s 8 (fun x => f (ck_G w o y x)) = 0 := fun y hy => ck_s_tail 0 8 (by omega) (fun q h1 h2 => z y q (by omega))
  rw [ck_s_tail w 8 hw (fun q h1 h2 => t0 q h1)]
  refine ck_s_c w (fun y hy => ?_)
  rw [t y]
  refine ck_s_c w (fun x hx => ?_)
  rw [show ck_G w o y x = o (8 * y + x) from if_pos ⟨hx, hy⟩]
theorem ck_271 {s m w L : Nat} (hs : s = 1 ∨ s = 2) (hm : m < 2) (hw : 3 ≤ w ∧ w ≤ 8) (hL : L < 2) (h1 : a1 (64 * (1 - L)) = 0)
    (hd : ∀ x y, x < w → y < w → 0 ≤ (s : Int) * (x : Int) - (m : Int) → (s : Int) * (x : Int) - (m : Int) < 6 → 0 ≤ (s : Int) * (y : Int) - (m : Int) → (s : Int) * (y : Int) - (m : Int) < 6 → a3 (8 * y + x) = ((x11 * ((x5 + ((x6 * nI s) * nI x)) + ((x7 * nI s) * nI y))) + (x6 * x12)) + (x7 * x13))
    (H : posL 1 ()) :
    ∃ n, wL_lawOf_271 posL mc ms x5 x6 x7 (nI s) (nI m) (nI L) x11 x12 x13 (nI w) kc ks fs fm fc (nI w) a1 a2 a3 a4 a5 a6 a7 a8 a9 a10 a11 a12 a13 a14 n 1 0 0 0 := by
  refine ck_loop (σ := Int32 × Int32) (fun n y t => wL_lawOf_271 posL mc ms x5 x6 x7 (nI s) (nI m) (nI L) x11 x12 x13 (nI w) kc ks fs fm fc (nI w) a1 a2 a3 a4 a5 a6 a7 a8 a9 a10 a11 a12 a13 a14 n 1 t.1 t.2 (nI y)) (fun y => (ck_s y (fun y => ck_s 8 (fun x => ck_ng (ck_G w a3 y x))), ck_s y (fun y => ck_s 8 (fun x => ck_ps (ck_G w a3 y x))))) 8 (0, 0) rfl ?_ ?_
  · intro n
    have n1 : ck_s w (fun y => ck_s w (fun x => ck_ng (a3 (8 * y + x)))) = ck_s 8 (fun y => ck_s 8 (fun x => ck_ng (ck_G w a3 y x))) := (ck_cnt (f := ck_ng) hw.2 (by decide)).symm
    have n2 : ck_s w (fun y => ck_s w (fun x => ck_ow w (8 * w) (fun q => ck_ps (a3 q)) a3 (8 * y + x))) = ck_s 8 (fun y => ck_s 8 (fun x => ck_ps (ck_G w a3 y x))) := by
      rw [ck_cnt (f := ck_ps) hw.2 (by decide)]
      refine ck_s_c w (fun y hy => ck_s_c w (fun x hx => ?_))
      exact ck_ow_in (by omega) (by omega)
    refine pk_le 8 8 (fun _ => ck_floor hw.2 <| ck_sum hw.2 <| ck_res_in (x := 0) (y := 0) (by omega) (by omega) hw.2 <| ck_res_in (x := 1) (y := 0) (by omega) (by omega) hw.2 <| ck_res_in (x := 0) (y := 1) (by omega) (by omega) hw.2 <| ck_res_in (x := 1) (y := 1) (by omega) (by omega) hw.2 <| ck_thin ⟨by omega, hw.2⟩ (fun o ho => ?_)) (fun z => absurd z (by omega))
    refine br_c (fun g => ck_564 hL ⟨by omega, hw.2⟩ n1 n2 ?_ h1 H) (fun g => ck_564 hL ⟨by omega, hw.2⟩ n1 n2 ?_ h1 H)
    · rw [ho]
      unfold ck_M4
      refine congrArg (fun z => ck_mx z _) ?_
      exact if_pos g
    · rw [ho]
      unfold ck_M4
      refine congrArg (fun z => ck_mx z _) ?_
      exact if_neg g
  · intro n y hy hh
    exact pk_le 8 y (fun z => absurd z (by omega)) (fun _ => ck_281 hs hm hw.2 hy (fun x hx hy' => hd x y hx hy') hh)
end
end
section
/-! the law: the kernel is set, the picture filled, the move made; what is due -/
section
variable {posL : Int32 → St0 → Prop} {mc ms kc ks : Nat} {x3 x5 x6 x7 x8 : Int32} {fs fm fc fw : Int32} {a1 a2 a3 a4 a5 a6 a7 a8 a9 a10 a11 a12 a13 a14 : Nat → Int32}
def ck_v (p : Int32) (t : Nat) : Int32 := ((p >>> ((3 * nI t) &&& 31)) &&& 7) - 3
theorem ck_v_i (p : Int32) (t : Nat) : ∃ z : Int, ck_v p t = ck_i z ∧ -3 ≤ z ∧ z ≤ 4 := by
  obtain ⟨j, hj, e⟩ := pk_andE (p >>> ((3 * nI t) &&& 31)) (m := 7) 3 (by decide)
  refine ⟨(j : Int) - 3, ?_, by omega, by omega⟩
  unfold ck_v
  rw [e]
  exact ck_sbI (ck_iN j) (by decide)
def ck_ks (p : Int32) (L t : Nat) : Nat → Int32 := ck_rg (9 * L) (9 * L + t) (fun q => ck_v p (q - 9 * L)) ck_z
def ck_tt (p : Int32) (t : Nat) : Int32 := ck_s t (ck_v p)
def ck_ac (p : Int32) (m t : Nat) : Int32 := ck_s t (fun t => ck_v p t * (nI (t % 3) - nI m))
def ck_dn (p : Int32) (m t : Nat) : Int32 := ck_s t (fun t => ck_v p t * (nI (t / 3) - nI m))
theorem ck_79 {J : Int32 → Int32 → Int32 → Int32 → Int32 → Int32 → Int32 → Int32 → (Nat → Int32) → (Nat → Int32) → (Nat → Int32) → (Nat → Int32) → (Nat → Int32) → (Nat → Int32) → (Nat → Int32) → (Nat → Int32) → (Nat → Int32) → (Nat → Int32) → (Nat → Int32) → (Nat → Int32) → (Nat → Int32) → (Nat → Int32) → Prop} {p : Int32} {m L j : Nat} (hL : L < 2) (hj : j < 3)
    (H : J (ck_tt p (3 * (j + 1))) (ck_ac p m (3 * (j + 1))) (ck_dn p m (3 * (j + 1))) (nI (j + 1)) fs fm fc fw a1 (ck_ks p L (3 * (j + 1))) a3 a4 a5 a6 a7 a8 a9 a10 a11 a12 a13 a14) :
    ∃ n, wL_lawOf_79 posL mc ms J p x3 x5 x6 x7 x8 (nI m) (nI L) (nI j) kc ks n (ck_tt p (3 * j)) (ck_ac p m (3 * j)) (ck_dn p m (3 * j)) 0 fs fm fc fw a1 (ck_ks p L (3 * j)) a3 a4 a5 a6 a7 a8 a9 a10 a11 a12 a13 a14 := by
  refine ck_loop (σ := Int32 × Int32 × Int32 × (Nat → Int32)) (fun n i t => wL_lawOf_79 posL mc ms J p x3 x5 x6 x7 x8 (nI m) (nI L) (nI j) kc ks n t.1 t.2.1 t.2.2.1 (nI i) fs fm fc fw a1 t.2.2.2 a3 a4 a5 a6 a7 a8 a9 a10 a11 a12 a13 a14) (fun i => (ck_tt p (3 * j + i), ck_ac p m (3 * j + i), ck_dn p m (3 * j + i), ck_ks p L (3 * j + i))) 3 (ck_tt p (3 * j), ck_ac p m (3 * j), ck_dn p m (3 * j), ck_ks p L (3 * j)) rfl ?_ ?_
  · intro n
    exact pk_le 3 3 (fun _ => nm_r (nI_1 j) H) (fun z => absurd z (by omega))
  · intro n i hi hh
    have ev : ((p >>> ((3 * ((3 * nI j) + nI i)) &&& 31)) &&& 7) - 3 = ck_v p (3 * j + i) := by
      rw [show (3 * nI j) + nI i = nI (3 * j + i) from ck_ad (ck_ml rfl rfl) rfl]
      rfl
    have ei : ((9 * nI L) + (3 * nI j)) + nI i = nI (9 * L + (3 * j + i)) := by
      rw [← Nat.add_assoc]
      exact ck_ad (ck_ad (ck_ml rfl rfl) (ck_ml rfl rfl)) rfl
    obtain ⟨z, ez, hz1, hz2⟩ := ck_v_i p (3 * j + i)
    have e1 : ck_ac p m (3 * j + i) + ck_v p (3 * j + i) * (nI i - nI m) = ck_ac p m (3 * j + (i + 1)) := by
      show _ = ck_ac p m (3 * j + i) + ck_v p (3 * j + i) * (nI ((3 * j + i) % 3) - nI m)
      rw [show (3 * j + i) % 3 = i by omega]
    have e2 : ck_dn p m (3 * j + i) + ck_v p (3 * j + i) * (nI j - nI m) = ck_dn p m (3 * j + (i + 1)) := by
      show _ = ck_dn p m (3 * j + i) + ck_v p (3 * j + i) * (nI ((3 * j + i) / 3) - nI m)
      rw [show (3 * j + i) / 3 = j by omega]
    have e3 : upd (ck_ks p L (3 * j + i)) (9 * L + (3 * j + i)) (ck_v p (3 * j + i)) = ck_ks p L (3 * j + (i + 1)) := by
      refine ck_rg_S rfl (by omega) ?_
      rw [show 9 * L + (3 * j + i) - 9 * L = 3 * j + i by omega]
    refine pk_le 3 i (fun z => absurd z (by omega)) (fun _ => nm_r ev ?_)
    rw [ei]
    refine ck_kernel (by omega) ez ⟨by omega, by omega⟩ (fun r => ?_)
    rw [e3]
    exact nm_r (e' := ck_tt p (3 * j + (i + 1))) rfl (nm_r e1 (nm_r e2 (nm_r (nI_1 i) hh)))
/-! what is due -/
theorem ck_lin (C b d : Int32) (v f g : Nat → Int32) (n : Nat) : ck_s n (fun t => (v t * C + b * f t) + d * g t) = (ck_s n v * C + b * ck_s n f) + d * ck_s n g := by
  induction n with
  | zero =>
    show (0 : Int32) = (0 * C + b * 0) + d * 0
    grind
  | succ n ih =>
    rw [ck_s_1, ck_s_1, ck_s_1, ck_s_1, ih]
    generalize ck_s n v = V
    generalize ck_s n f = F
    generalize ck_s n g = G
    generalize v n = v0
    generalize f n = f0
    generalize g n = g0
    grind
theorem ck_term (a b d s x y m i j v : Int32) : ((a + b * ((s * x - m) + i)) + d * ((s * y - m) + j)) * v = (v * ((a + (b * s) * x) + (d * s) * y) + b * (v * (i - m))) + d * (v * (j - m)) := by grind
theorem ck_pick {f : Nat → Int32} {L : Nat} (hL : L < 2) (h : ∀ q, q < 18 → q / 9 ≠ L → f q = 0) : ck_s 18 f = ck_s 9 (fun t => f (9 * L + t)) := by
  rw [show 18 = 9 + 9 from rfl, ck_s_ab]
  have hL' : L = 0 ∨ L = 1 := by omega
  rcases hL' with rfl | rfl
  · have z : ck_s 9 (fun t => f (9 + t)) = 0 := ck_s_tail 0 9 (by omega) (fun q _ hq => h _ (by omega) (by omega))
    rw [z, Int32.add_zero]
    refine ck_s_c 9 (fun t _ => ?_)
    rw [Nat.mul_zero, Nat.zero_add]
  · have z : ck_s 9 f = 0 := ck_s_tail 0 9 (by omega) (fun q _ hq => h _ (by omega) (by omega))
    rw [z, Int32.zero_add, Nat.mul_one]
theorem ck_due {p : Int32} {A B D : Int} {s m L x y : Nat} (hm : m < 2) (hL : L < 2) (h1 : 0 ≤ (s : Int) * (x : Int) - (m : Int)) (h2 : (s : Int) * (x : Int) - (m : Int) < 6) (h3 : 0 ≤ (s : Int) * (y : Int) - (m : Int)) (h4 : (s : Int) * (y : Int) - (m : Int) < 6) :
    ck_R (ck_ks p L 9) (ck_rg (64 * L) (64 * L + 64) (ck_fv L A B D) ck_z) s m x y = ((ck_tt p 9 * ((ck_i A + ((ck_i B * nI s) * nI x)) + ((ck_i D * nI s) * nI y))) + (ck_i B * ck_ac p m 9)) + (ck_i D * ck_dn p m 9) := by
  rw [ck_R_tm, ck_pick hL]
  · unfold ck_tt ck_ac ck_dn
    rw [← ck_lin]
    refine ck_s_c 9 (fun t ht => ?_)
    unfold ck_tm
    rw [show (9 * L + t) / 9 = L by omega, show (9 * L + t) % 9 = t by omega]
    have ek : ck_ks p L 9 (9 * L + t) = ck_v p t := by
      unfold ck_ks
      rw [ck_rg_in (by omega), show 9 * L + t - 9 * L = t by omega]
    obtain ⟨X, eX⟩ : ∃ X : Nat, (s : Int) * (x : Int) - (m : Int) + ((t % 3 : Nat) : Int) = X := ⟨((s : Int) * (x : Int) - (m : Int) + ((t % 3 : Nat) : Int)).toNat, by omega⟩
    obtain ⟨Y, eY⟩ : ∃ Y : Nat, (s : Int) * (y : Int) - (m : Int) + ((t / 3 : Nat) : Int) = Y := ⟨((s : Int) * (y : Int) - (m : Int) + ((t / 3 : Nat) : Int)).toNat, by omega⟩
    have hX : X < 8 := by omega
    have hY : Y < 8 := by omega
    have ea : ck_at (ck_rg (64 * L) (64 * L + 64) (ck_fv L A B D) ck_z) L ((s : Int) * (x : Int) - (m : Int) + ((t % 3 : Nat) : Int)) ((s : Int) * (y : Int) - (m : Int) + ((t / 3 : Nat) : Int)) = (ck_i A + ck_i B * ((nI s * nI x - nI m) + nI (t % 3))) + ck_i D * ((nI s * nI y - nI m) + nI (t / 3)) := by
      rw [eX, eY, ck_at_p ⟨hX, hY⟩, ck_rg_in (by omega), ck_fv_at hX, ← eX, ← eY]
      exact (ck_adI (ck_adI rfl (ck_mlI rfl (ck_adI (ck_sbI (ck_mlI (ck_iN s) (ck_iN x)) (ck_iN m)) (ck_iN _)))) (ck_mlI rfl (ck_adI (ck_sbI (ck_mlI (ck_iN s) (ck_iN y)) (ck_iN m)) (ck_iN _)))).symm
    rw [ea, ek]
    exact ck_term _ _ _ _ _ _ _ _ _ _
  · intro q hq hn
    have ek : ck_ks p L 9 q = 0 := by
      unfold ck_ks
      rw [ck_rg_out (by omega)]
      rfl
    unfold ck_tm
    rw [ek, Int32.mul_zero]
theorem ck_ks_bd (p : Int32) (L q : Nat) : ck_bd (ck_ks p L 9 q) 9 := by
  by_cases h : 9 * L ≤ q ∧ q < 9 * L + 9
  · unfold ck_ks
    rw [ck_rg_in h]
    obtain ⟨z, ez, hz1, hz2⟩ := ck_v_i p (q - 9 * L)
    rw [ez]
    exact ck_bd_i (by omega) (by decide)
  · unfold ck_ks
    rw [ck_rg_out h]
    exact ck_bd_0 _
theorem ck_pic_bd {A : Int} {b d L : Nat} (hA : -3 ≤ A ∧ A ≤ 4) (hb : b < 3) (hd : d < 3) (q : Nat) : ck_bd (ck_rg (64 * L) (64 * L + 64) (ck_fv L A ((b : Int) - 1) ((d : Int) - 1)) ck_z q) 20 := by
  by_cases h : 64 * L ≤ q ∧ q < 64 * L + 64
  · rw [ck_rg_in h]
    have t := ck_fb (x := (q - 64 * L) % 8) (y := (q - 64 * L) / 8) hA hb hd (by omega) (by omega)
    exact ck_bd_i (by omega) (by decide)
  · rw [ck_rg_out h]
    exact ck_bd_0 _
theorem ck_wf {s m : Nat} (hs : s = 1 ∨ s = 2) (hm : m < 2) : nI (ck_wd s m) = (((8 + (2 * nI m)) - 3) / nI s) + 1 := by
  have hm' : m = 0 ∨ m = 1 := by omega
  rcases hs with rfl | rfl <;> rcases hm' with rfl | rfl <;> decide
theorem ck_70 {p : Int32} {A : Int} {b d s m L z : Nat} (hA : -3 ≤ A ∧ A ≤ 4) (hb : b < 3) (hd : d < 3) (hs : s = 1 ∨ s = 2) (hm : m < 2) (hL : L < 2) (hz : z < 4) (ez : (x3 >>> ((3 : Int32) &&& 31)) &&& 3 = nI z) (H : posL 1 ()) :
    ∃ n, wL_lawOf_70 posL mc ms p x3 (ck_i A) (nI b - 1) (nI d - 1) (nI s) (nI m) (nI L) kc ks n 0 0 0 0 1 1 0 0 ck_z ck_z ck_z ck_z ck_z ck_z ck_z ck_z ck_z ck_z ck_z (ck_tb 7098 15) (ck_tb 7154 15) ck_z := by
  refine ck_loop (σ := Int32 × Int32 × Int32 × (Nat → Int32)) (fun n j t => wL_lawOf_70 posL mc ms p x3 (ck_i A) (nI b - 1) (nI d - 1) (nI s) (nI m) (nI L) kc ks n t.1 t.2.1 t.2.2.1 (nI j) 1 1 0 0 ck_z t.2.2.2 ck_z ck_z ck_z ck_z ck_z ck_z ck_z ck_z ck_z (ck_tb 7098 15) (ck_tb 7154 15) ck_z) (fun j => (ck_tt p (3 * j), ck_ac p m (3 * j), ck_dn p m (3 * j), ck_ks p L (3 * j))) 3 (0, 0, 0, ck_z) (by show _ = (0, 0, 0, ck_ks p L 0); rw [show ck_ks p L 0 = ck_z from ck_rg_0]) ?_ ?_
  · intro n
    refine pk_le 3 3 (fun _ => ?_) (fun z => absurd z (by omega))
    refine ck_fill hL hA hb hd ?_
    refine ck_shape hs hm ?_
    rw [ez]
    refine ck_way hz ?_
    refine ck_move hs hm hz (fun q _ => ck_ks_bd p L q) (fun q _ => ck_pic_bd hA hb hd q) (fun j hj => ck_tb_at (by omega)) (fun j hj => ck_tb_at (by omega)) (fun o p4 p5 p6 p7 p8 p9 p10 p11 p14 ho => ?_)
    refine br_t rfl (br_t rfl (And.intro (nI_ne0 (by omega) (by omega)) (br_t (ck_wf hs hm) ?_)))
    refine ck_271 hs hm (ck_wd_le hm) hL ?_ ?_ H
    · rw [ck_rg_out (by omega)]
      rfl
    · intro x y hx hy h1 h2 h3 h4
      have eb : nI b - 1 = ck_i ((b : Int) - 1) := ck_sbI (ck_iN b) (by decide)
      have ed : nI d - 1 = ck_i ((d : Int) - 1) := ck_sbI (ck_iN d) (by decide)
      rw [ho x y hx hy, eb, ed]
      exact ck_due hm hL h1 h2 h3 h4
  · intro n j hj hh
    exact pk_le 3 j (fun z => absurd z (by omega)) (fun _ => ck_79 hL hj hh)
theorem ck_lawOf (p0 p1 p2 p3 : Int32) (hc : 15 ≤ mc) (hs : 2260 ≤ ms) (H : posL 1 ()) : wpL_lawOf posL mc ms () p0 p1 p2 p3 := by
  obtain ⟨j0, h0, e0⟩ := pk_andE p0 (m := 7) 3 (by decide)
  obtain ⟨j1, h1, e1⟩ := pk_andE p1 (m := 3) 2 (by decide)
  obtain ⟨j2, h2, e2⟩ := pk_andE (p1 >>> ((2 : Int32) &&& 31)) (m := 3) 2 (by decide)
  obtain ⟨j3, h3, e3⟩ := pk_andE p3 (m := 1) 1 (by decide)
  obtain ⟨j4, h4, e4⟩ := pk_andE (p3 >>> ((1 : Int32) &&& 31)) (m := 1) 1 (by decide)
  obtain ⟨j5, h5, e5⟩ := pk_andE (p3 >>> ((2 : Int32) &&& 31)) (m := 1) 1 (by decide)
  obtain ⟨j6, h6, e6⟩ := pk_andE (p3 >>> ((3 : Int32) &&& 31)) (m := 3) 2 (by decide)
  have r0 : (p0 &&& 7) - 3 = ck_i ((j0 : Int) - 3) := by
    rw [e0]
    exact ck_sbI (ck_iN j0) (by decide)
  have r1 : ((p1 &&& 3) - (p1 &&& 3) / 3 * 3) - 1 = nI (j1 % 3) - 1 := by
    rw [e1]
    exact congrArg (· - 1) (pk_rem (d := 3) (by omega) (by decide) (by decide))
  have r2 : (((p1 >>> ((2 : Int32) &&& 31)) &&& 3) - ((p1 >>> ((2 : Int32) &&& 31)) &&& 3) / 3 * 3) - 1 = nI (j2 % 3) - 1 := by
    rw [e2]
    exact congrArg (· - 1) (pk_rem (d := 3) (by omega) (by decide) (by decide))
  have r3 : 1 + (p3 &&& 1) = nI (1 + j3) := by
    rw [e3]
    exact ck_ad rfl rfl
  refine ⟨by omega, by omega, 14, 2242, by omega, by omega, ck_init (by omega) (by omega) ?_⟩
  refine nm_r r0 <| And.intro (by decide) <| nm_r r1 <| And.intro (by decide) <| nm_r r2 <| nm_r r3 <| nm_r e4 <| nm_r e5 <| ?_
  exact ck_70 (by omega) (by omega) (by omega) (by omega) (by omega) (by omega) (by omega) e6 H
end
end
section
/-! the owed statement -/
theorem ck_cell {post : Int32 → Prop} {L k : Nat} {xs : Nat → Int32} (hL : L ≤ 4) (hk : k < 4) (H : ∀ r, post r) : wpL_cellAt post L xs () (nI k) :=
  pk_le L k (fun _ => H _) (fun h => And.intro (pk_in k L h) (H _))
theorem i_vc (xs : Nat → Int32) (L : Nat) (hL : L ≤ 4) : wpL_law (fun r => r = 1) L xs := by
  unfold wpL_law
  exact ck_cell (k := 0) hL (by decide) (fun r1 => ck_cell (k := 1) hL (by decide) (fun r2 => ck_cell (k := 2) hL (by decide) (fun r3 => ck_cell (k := 3) hL (by decide) (fun r4 => ⟨1160, 18560, by omega, by omega, ck_lawOf r1 r2 r3 r4 (by omega) (by omega) rfl⟩))))
end
