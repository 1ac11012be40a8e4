section
/-! rows of kit/rows/PURE-ROWS (starting text) -/
theorem pk_us {f : Nat → Int32} {k : Nat} {x : Int32} : upd f k x k = x := if_pos rfl
theorem pk_un {f : Nat → Int32} {k j : Nat} {x : Int32} (h : j ≠ k) : upd f k x j = f j := if_neg h
theorem pk_sub {a b : Nat} (h : b ≤ a) : nI a - nI b = nI (a - b) := by
  obtain ⟨c, rfl⟩ : ∃ c, a = c + b := ⟨a - b, by omega⟩
  rw [← nI_add, Int32.add_sub_cancel, Nat.add_sub_cancel]
theorem pk_m1 (n : Nat) : nI (n + 1) + (-1) = nI n := by
  rw [← nI_1, Int32.add_assoc, show (1 : Int32) + (-1) = 0 from rfl, Int32.add_zero]
theorem pk_mul (a b : Nat) : nI a * nI b = nI (a * b) := (Int32.ofNat_mul a b).symm
theorem pk_div {a d : Nat} (ha : a < 2 ^ 31) (h0 : 0 < d) (hd : d < 2 ^ 31) : nI a / nI d = nI (a / d) := by
  apply Int32.toInt_inj.mp
  rw [lg_idiv_nonneg (by rw [nI_toInt ha]; omega) (by rw [nI_toInt hd]; omega), nI_toInt ha, nI_toInt hd, nI_toInt (Nat.lt_of_le_of_lt (Nat.div_le_self a d) ha)]
  first | rfl | exact (Int.natCast_ediv _ _).symm
theorem pk_rem {a d : Nat} (ha : a < 2 ^ 31) (h0 : 0 < d) (hd : d < 2 ^ 31) : nI a - nI a / nI d * nI d = nI (a % d) := by
  rw [pk_div ha h0 hd, pk_mul, pk_sub (Nat.div_mul_le_self a d)]
  exact congrArg nI (by have := Nat.div_add_mod' a d; omega)
theorem pk_le {x y : Int32} {A B : Prop} (a b : Nat) (f : a ≤ b → A) (g : b < a → B) (hx : x = nI a := by rfl) (hy : y = nI b := by rfl) (ha : a < 2 ^ 31 := by omega) (hb : b < 2 ^ 31 := by omega) : (x ≤ y → A) ∧ (¬ x ≤ y → B) := by
  subst hx hy
  rw [nI_leI ha hb]
  exact ⟨f, fun z => g (by omega)⟩
theorem pk_lt {x y : Int32} {A B : Prop} (a b : Nat) (f : a < b → A) (g : b ≤ a → B) (hx : x = nI a := by rfl) (hy : y = nI b := by rfl) (ha : a < 2 ^ 31 := by omega) (hb : b < 2 ^ 31 := by omega) : (x < y → A) ∧ (¬ x < y → B) := by
  subst hx hy
  rw [nI_ltI ha hb]
  exact ⟨f, fun z => g (by omega)⟩
theorem pk_eq {x y : Int32} {A B : Prop} (a b : Nat) (f : a = b → A) (g : a ≠ b → B) (hx : x = nI a := by rfl) (hy : y = nI b := by rfl) (ha : a < 2 ^ 31 := by omega) (hb : b < 2 ^ 31 := by omega) : (x = y → A) ∧ (¬ x = y → B) := by
  subst hx hy
  rw [nI_eq ha hb]
  exact ⟨f, g⟩
theorem pk_in {x : Int32} (n N : Nat) (h : n < N) (hx : x = nI n := by rfl) (hN : N < 2 ^ 31 := by omega) : vp_in x N := by
  subst hx
  exact vp_in_nI h hN
theorem pk_cl {x : Int32} (n : Nat) (hx : x = nI n := by rfl) (h : n < 2 ^ 31 := by omega) : x.toNatClampNeg = n := by
  subst hx
  exact nI_clamp h
theorem pk_tn {n : Nat} (h : n < 2 ^ 32) : (nI n).toBitVec.toNat = n := Nat.mod_eq_of_lt h
theorem pk_and (x : Int32) {m : Int32} (k : Nat) (hm : m.toBitVec.toNat = 2 ^ k - 1) : x &&& m = nI (x.toBitVec.toNat % 2 ^ k) := by
  apply Int32.toBitVec_inj.mp
  apply BitVec.eq_of_toNat_eq
  rw [Int32.toBitVec_and, BitVec.toNat_and, hm, Nat.and_two_pow_sub_one_eq_mod]
  show _ = (BitVec.ofNat 32 _).toNat
  rw [BitVec.toNat_ofNat]
  exact (Nat.mod_eq_of_lt (Nat.lt_of_le_of_lt (Nat.mod_le _ _) x.toBitVec.isLt)).symm
theorem pk_andN {n : Nat} (h : n < 2 ^ 32) {m : Int32} (k : Nat) (hm : m.toBitVec.toNat = 2 ^ k - 1) : nI n &&& m = nI (n % 2 ^ k) := by
  rw [pk_and _ k hm, pk_tn h]
theorem pk_shr (a s : Int32) (k : Nat) (hs : (s.toBitVec.smod 32).toNat = k) : (a >>> s).toInt = a.toInt >>> k := by
  show (a.toBitVec.sshiftRight (s.toBitVec.smod 32).toNat).toInt = _
  rw [hs, BitVec.toInt_sshiftRight]
  rfl
theorem pk_shrN {n : Nat} (h : n < 2 ^ 31) (s : Int32) (k : Nat) (hs : (s.toBitVec.smod 32).toNat = k) : nI n >>> s = nI (n / 2 ^ k) := by
  apply Int32.toInt_inj.mp
  have h2 : n / 2 ^ k ≤ n := Nat.div_le_self _ _
  rw [pk_shr _ _ k hs, nI_toInt h, nI_toInt (by omega), Int.shiftRight_eq_div_pow]
  rfl
theorem ek_if {c d A B : Prop} (e : c ↔ d) (f : d → A) (g : ¬ d → B) : (c → A) ∧ (¬ c → B) :=
  ⟨fun z => f (e.mp z), fun z => g (fun y => z (e.mpr y))⟩
theorem ek_v {α : Sort _} {P : α → Prop} {a b : α} (e : a = b) (h : P b) : P a := e ▸ h
/-! own rows: arrays of naturals -/
def na_v (f : Nat → Nat) : Nat → Int32 := fun i => nI (f i)
def na_u (f : Nat → Nat) (k x : Nat) : Nat → Nat := fun j => if j = k then x else f j
theorem na_us {f : Nat → Nat} {k x : Nat} : na_u f k x k = x := if_pos rfl
theorem na_un {f : Nat → Nat} {k j x : Nat} (h : j ≠ k) : na_u f k x j = f j := if_neg h
theorem na_up {f : Nat → Nat} {k x : Nat} : upd (na_v f) k (nI x) = na_v (na_u f k x) := by
  funext j
  show (if j = k then nI x else nI (f j)) = nI (if j = k then x else f j)
  by_cases h : j = k
  · rw [if_pos h, if_pos h]
  · rw [if_neg h, if_neg h]
theorem na_r {f : Nat → Nat} {i : Nat} (h : i < 2 ^ 31) : na_v f (nI i).toNatClampNeg = nI (f i) := by
  rw [nI_clamp h]; rfl
theorem na_a {f : Nat → Nat} {i : Nat} : na_v f i = nI (f i) := rfl
theorem na_z : (fun _ => 0 : Nat → Int32) = na_v (fun _ => 0) := by
  funext j; exact nI_0.symm
theorem na_m8 (a : Nat) : 8 * nI a = nI (8 * a) := pk_mul 8 a
theorem na_m16 (a : Nat) : 16 * nI a = nI (16 * a) := pk_mul 16 a
theorem na_m128 (a : Nat) : 128 * nI a = nI (128 * a) := pk_mul 128 a
theorem na_8 (a n : Nat) : 8 * nI a + nI n = nI (8 * a + n) := by rw [na_m8, nI_add]
theorem na_16 (a n : Nat) : 16 * nI a + nI n = nI (16 * a + n) := by rw [na_m16, nI_add]
theorem na_128 (a n : Nat) : 128 * nI a + nI n = nI (128 * a + n) := by rw [na_m128, nI_add]
theorem na_a8 (n : Nat) : 8 + nI n = nI (8 + n) := nI_add 8 n
theorem na_a128 (n : Nat) : 128 + nI n = nI (128 + n) := nI_add 128 n
theorem na_ix {od : Nat → Nat} {i n : Nat} (hi : i < 2 ^ 31) : 8 * (na_v od (nI i).toNatClampNeg) + nI n = nI (8 * od i + n) := by
  rw [na_r hi, na_8]
theorem na_rb {bd od : Nat → Nat} {i n : Nat} (hi : i < 2 ^ 31) (hb : 8 * od i + n < 2 ^ 31) : na_v bd (8 * (na_v od (nI i).toNatClampNeg) + nI n).toNatClampNeg = nI (bd (8 * od i + n)) := by
  rw [na_ix hi, na_r hb]
theorem na_rs {bd : Nat → Nat} {m n : Nat} (hb : 8 * m + n < 2 ^ 31) : na_v bd (8 * nI m + nI n).toNatClampNeg = nI (bd (8 * m + n)) := by
  rw [na_8, na_r hb]
theorem na_d8 {p : Nat} (h : p < 2 ^ 31) : nI p / 8 = nI (p / 8) := pk_div h (by decide) (by decide)
theorem na_r8 {p : Nat} (h : p < 2 ^ 31) : nI p - nI p / 8 * 8 = nI (p % 8) := pk_rem h (by decide) (by decide)
theorem na_s3 {p : Nat} (h : p < 2 ^ 31) : nI p >>> ((3 : Int32) &&& 31) = nI (p / 8) := pk_shrN h _ 3 (by decide)
theorem na_n7 {p : Nat} (h : p < 2 ^ 31) : nI p &&& 7 = nI (p % 8) := pk_andN (by omega) 3 (by decide)
theorem na_s1 {n : Nat} (h : 0 < n) : nI n - 1 = nI (n - 1) := by
  obtain ⟨m, rfl⟩ : ∃ m, n = m + 1 := ⟨n - 1, by omega⟩
  exact nI_pred m
theorem na_m1lt : (-1 : Int32) < 0 := by decide
theorem na_m1le : ¬ (0 : Int32) ≤ -1 := by decide
theorem na_ne1 {a : Nat} (h : a < 2 ^ 31) : ¬ nI a = -1 := by
  intro e
  have := nI_pos (n := a) h
  rw [e] at this
  exact this na_m1lt
theorem na_im {a b : Nat} (h : nI a = nI b) (ha : a < 2 ^ 31) (hb : b < 2 ^ 31) : a = b := (nI_eq ha hb).mp h
theorem na_b0 : vp_nar .boolean 0 = 0 := by decide
theorem na_b1 : vp_nar .boolean 1 = 1 := by decide
theorem na_nb {a : Nat} (h : a ≤ 1) : narrow .boolean (.int (nI a)) = .int (nI a) := by
  have h2 : a = 0 ∨ a = 1 := by omega
  rcases h2 with rfl | rfl
  · rfl
  · rfl
theorem na_in {x : Int32} {n N : Nat} (e : x = nI n) (h : n < N) (hN : N < 2 ^ 31) : vp_in x N := by
  rw [e]; exact vp_in_nI h hN
/-- a branch at -1 -/
theorem na_fu {f n : Nat} (h : n < f) : ∃ g, f = g + 1 := ⟨f - 1, by omega⟩
/-- a number out of an interval from below -/
theorem na_bt {x : Int32} {N : Nat} (h0 : ¬ x < 0) (h : x ≤ nI N) (hN : N < 2 ^ 31) : ∃ j, j ≤ N ∧ x = nI j := by
  obtain ⟨j, hj, rfl⟩ := nI_of h0
  exact ⟨j, (nI_leI hj hN).mp h, rfl⟩
theorem na_bl {x : Int32} {N : Nat} (h0 : ¬ x < 0) (h : x < nI N) (hN : N < 2 ^ 31) : ∃ j, j < N ∧ x = nI j := by
  obtain ⟨j, hj, rfl⟩ := nI_of h0
  exact ⟨j, (nI_ltI hj hN).mp h, rfl⟩
theorem na_ui {f : Nat → Nat} {i x : Nat} (h : i < 2 ^ 31) : upd (na_v f) (nI i).toNatClampNeg (nI x) = na_v (na_u f i x) := by
  rw [nI_clamp h]; exact na_up
theorem na_uc {f : Nat → Int32} {i : Nat} {x : Int32} (h : i < 2 ^ 31) : upd f (nI i).toNatClampNeg x = upd f i x := by
  rw [nI_clamp h]
/-! counting by a Boolean function of the reader's own: cn f k = how many j < k have f j = true -/
def na_cn (f : Nat → Bool) : Nat → Nat
  | 0 => 0
  | k + 1 => na_cn f k + (if f k = true then 1 else 0)
theorem na_cn_le (f : Nat → Bool) : ∀ k, na_cn f k ≤ k
  | 0 => Nat.le_refl 0
  | k + 1 => by
    have := na_cn_le f k
    show na_cn f k + (if f k = true then 1 else 0) ≤ k + 1
    split <;> omega
theorem na_cn_congr {f g : Nat → Bool} : ∀ k, (∀ j, j < k → f j = g j) → na_cn f k = na_cn g k
  | 0, _ => rfl
  | k + 1, h => by
    have h1 := na_cn_congr k (fun j hj => h j (by omega))
    show na_cn f k + (if f k = true then 1 else 0) = na_cn g k + (if g k = true then 1 else 0)
    rw [h1, h k (by omega)]
/-- one more: g is f but that it holds at j too, where f doesn't -/
theorem na_cn_up {f g : Nat → Bool} {j : Nat} (hf : f j = false) (hg : g j = true) (h : ∀ i, i ≠ j → g i = f i) : ∀ k, j < k → na_cn g k = na_cn f k + 1
  | 0, hj => absurd hj (by omega)
  | k + 1, hj => by
    show na_cn g k + (if g k = true then 1 else 0) = na_cn f k + (if f k = true then 1 else 0) + 1
    by_cases e : j = k
    · subst e
      rw [hf, hg, na_cn_congr (f := g) (g := f) j (fun i hi => h i (by omega))]
      simp
    · rw [na_cn_up hf hg h k (by omega), h k (by omega)]
      omega
/-- a miss: below the room -/
theorem na_cn_lt {f : Nat → Bool} {j : Nat} (hf : f j = false) : ∀ k, j < k → na_cn f k < k
  | 0, hj => absurd hj (by omega)
  | k + 1, hj => by
    show na_cn f k + (if f k = true then 1 else 0) < k + 1
    by_cases e : j = k
    · subst e
      have := na_cn_le f j
      rw [hf]; simp; omega
    · have := na_cn_lt hf k (by omega)
      split <;> omega
theorem na_cn_0 {f : Nat → Bool} : ∀ k, (∀ j, j < k → f j = false) → na_cn f k = 0
  | 0, _ => rfl
  | k + 1, h => by
    show na_cn f k + (if f k = true then 1 else 0) = 0
    rw [na_cn_0 k (fun j hj => h j (by omega)), h k (by omega)]
    simp
theorem na_cn_pos {f : Nat → Bool} {j : Nat} (hf : f j = true) : ∀ k, j < k → 0 < na_cn f k
  | 0, hj => absurd hj (by omega)
  | k + 1, hj => by
    show 0 < na_cn f k + (if f k = true then 1 else 0)
    by_cases e : j = k
    · subst e
      rw [hf]; simp
    · have := na_cn_pos hf k (by omega)
      omega
end
section
/-! opcodes that can be fed -/
def fd_op (k : Nat) : Prop := k ≤ 5 ∨ (7 ≤ k ∧ k ≤ 14) ∨ (16 ≤ k ∧ k ≤ 22)
/-- what was fed -/
def fd_ok (mM mS mI mc sc : Nat) (ar bd bv mo z y fo nN od : Nat → Nat) (fa fn : Nat → Int32) : Prop :=
  (1 ≤ mM ∧ mM ≤ 8 ∧ 1 ≤ mS ∧ mS ≤ 8 ∧ 8 ≤ mI ∧ mI ≤ 128 ∧ mc ≤ mM ∧ sc ≤ mS) ∧
  (∀ i, ar i < 8) ∧ (∀ i, bd i ≤ 6) ∧ (∀ i, bd i < 3 → bv i = 0) ∧ (∀ i, bd i = 6 → 1 ≤ bv i ∧ bv i ≤ 8) ∧
  (∀ i, 3 ≤ bd i → bd i ≤ 5 → bv i < 64 ∧ bv i / 8 < sc ∧ mo (bv i / 8) = i / 8) ∧
  (∀ i, mo i < 8) ∧ (∀ s, s < sc → mo s < mc) ∧
  (∀ i, z i ≤ 8) ∧ (∀ i, i < 8 → y i = z i) ∧ (∀ s, sc ≤ s → s < 8 → z s = 0) ∧
  (∀ p, fd_op (fo p)) ∧ (∀ p, p < 64 → z (p / 8) ≤ p % 8 → fo p = 0) ∧
  (∀ p, nN p < 8) ∧ (∀ p, 7 ≤ fo p → -7 ≤ (fa p).toInt ∧ (fa p).toInt ≤ 7) ∧
  (∀ p, p < 64 → p % 8 < z (p / 8) → fn p = if fo p < 7 then -1 else nI (nN p)) ∧
  (∀ i, od i < 8)
/-! the winners, over the first i of the loading order -/
def wi_st (bd bv od : Nat → Nat) (n : Nat) : Nat → Int32
  | 0 => -1
  | i + 1 => if bd (8 * od i + n) = 4 then nI (bv (8 * od i + n)) else wi_st bd bv od n i
def wi_wk (bd bv od : Nat → Nat) (n : Nat) : Nat → Int32
  | 0 => -1
  | i + 1 => if bd (8 * od i + n) = 5 ∧ wi_wk bd bv od n i = -1 then nI (bv (8 * od i + n)) else wi_wk bd bv od n i
def wi_cm (bd bv od : Nat → Nat) (n : Nat) : Nat → Nat
  | 0 => 0
  | i + 1 => if bd (8 * od i + n) = 6 ∧ ¬ bv (8 * od i + n) ≤ wi_cm bd bv od n i then bv (8 * od i + n) else wi_cm bd bv od n i
def wi_wn (bd bv od : Nat → Nat) (lc n : Nat) : Int32 :=
  if wi_st bd bv od n lc = -1 then (if wi_cm bd bv od n lc = 0 then wi_wk bd bv od n lc else nI (8 * (8 + n))) else wi_st bd bv od n lc
/-- at most one strong -/
def wi_nd (bd od : Nat → Nat) (lc : Nat) : Prop := ∀ n, n < 8 → ∀ i j, i < lc → j < lc → bd (8 * od i + n) = 4 → bd (8 * od j + n) = 4 → i = j
/-- a name's meaning in a module -/
def wi_me (bd bv : Nat → Nat) (wn : Nat → Int32) (m n : Nat) : Int32 := if bd (8 * m + n) = 3 then nI (bv (8 * m + n)) else wn n
/-- the loading order -/
def ld_po (lc : Nat) (od : Nat → Nat) (po : Nat → Int32) : Prop :=
  ∀ j, j < 8 → ((∀ i, i < lc → od i ≠ j) ∧ po j = -1) ∨ (∃ i, i < lc ∧ od i = j ∧ po j = nI i)
def ld_ok (mc lc : Nat) (od : Nat → Nat) (po : Nat → Int32) : Prop :=
  lc ≤ 8 ∧ (∀ i, i < lc → od i < mc) ∧ (∀ i j, i < lc → j < lc → od i = od j → i = j) ∧ ld_po lc od po
/-! places and addresses -/
def lk_pl (z : Nat → Nat) (ba : Nat → Int32) (p : Nat) : Prop := p < 128 ∧ ¬ ba (p / 8) < 0 ∧ p % 8 < z (p / 8)
def lk_a (ba : Nat → Int32) (p : Nat) : Nat := (ba (p / 8)).toNatClampNeg + p % 8
def lk_l (ba : Nat → Int32) (v : Int32) : Int32 := if v = -1 then 0 else nI (lk_a ba v.toNatClampNeg)
def lk_mp (ba : Nat → Int32) (m : Nat) (v : Int32) : Int32 := if m = 1 then v else lk_l ba v
def lk_ix (ba : Nat → Int32) (m p : Nat) : Nat := if m = 1 then 128 + p else lk_a ba p
def lk_ok (z : Nat → Nat) (ba : Nat → Int32) (v : Int32) : Prop := v = -1 ∨ ∃ q, lk_pl z ba q ∧ v = nI q
/-- the layout -/
def lo_ok (z : Nat → Nat) (C : Nat) (ba ly : Nat → Int32) : Prop :=
  1 ≤ C ∧ ly 0 = -1 ∧
  (∀ b, b < 16 → ba b = -1 ∨ ∃ B, ba b = nI B ∧ 1 ≤ B ∧ B + z b ≤ C ∧ (∀ o, o < z b → ly (B + o) = nI (8 * b + o)) ∧ (b < 8 → B + z b < C ∧ ly (B + z b) = -1)) ∧
  (∀ a, a < C → ly a = -1 ∨ ∃ b o B, b < 16 ∧ o < z b ∧ ba b = nI B ∧ a = B + o ∧ ly a = nI (8 * b + o))
/-- one cell of machine m at place p: o, a in X's memory, k, v in Y's -/
def mm_c (z : Nat → Nat) (ba : Nat → Int32) (m p : Nat) (o a k v : Int32) : Prop :=
  ∃ c, k = nI c ∧ o = nI c ∧ fd_op c ∧ (64 ≤ p → c = 0 ∨ c = 7) ∧ (c < 7 → a = v) ∧
    (7 ≤ c → lk_ok z ba v ∧ a = (if m = 0 ∧ 16 ≤ c then lk_mp ba m v - nI (lk_a ba p) else lk_mp ba m v))
def mm_ok (z : Nat → Nat) (C : Nat) (ba ly mO mA kd vl : Nat → Int32) : Prop :=
  (∀ a, a < 128 → (C ≤ a ∨ ly a = -1) → mO a = 6 ∧ mA a = 0) ∧
  (∀ p, lk_pl z ba p → ∀ m, m < 2 → mm_c z ba m p (mO (lk_ix ba m p)) (mA (lk_ix ba m p)) (kd (128 * m + p)) (vl (128 * m + p)))
/-- the registers of machine m -/
def rg_c (z : Nat → Nat) (ba : Nat → Int32) (m : Nat) (cX cY aO aA aV oC : Int32) : Prop :=
  (lk_ok z ba cY ∧ cX = lk_mp ba m cY) ∧ ((aO = 0 ∧ aA = aV) ∨ (aO = 7 ∧ lk_ok z ba aV ∧ aA = lk_mp ba m aV)) ∧ (∃ k, k ≤ 16 ∧ oC = nI k)
def rg_ok (z : Nat → Nat) (ba ct cY aO aA aV oC : Nat → Int32) : Prop := ∀ m, m < 2 → rg_c z ba m (ct m) (cY m) (aO m) (aA m) (aV m) (oC m)
/-- all that holds while linked -/
def lk_all (mc lc : Nat) (bd bv z od : Nat → Nat) (cc cl : Int32) (po wn ba pa mO mA ct aO aA oC ly kd vl aV cY : Nat → Int32) : Prop :=
  ∃ C, (cc = nI C ∧ cl = nI C ∧ C ≤ 128) ∧ ld_ok mc lc od po ∧ wi_nd bd od lc ∧ (∀ n, n < 8 → wn n = wi_wn bd bv od lc n) ∧ (∀ n, n < 8 → z (8 + n) = wi_cm bd bv od n lc) ∧
    lo_ok z C ba ly ∧ (∀ a, a < 128 → pa a = if a < C then ly a else -1) ∧ mm_ok z C ba ly mO mA kd vl ∧ rg_ok z ba ct cY aO aA aV oC
/-! the relation -/
def i_Rel (k : Nat) (u : SX) (v : SY) : Prop :=
  ∃ (mM mS mI mc sc lc : Nat) (ar bd bv mo z y fo nN od : Nat → Nat) (L qc cc cl : Int32) (fa fn po wn rt qu ba pa mO mA st ct aO aA oC ou ly rY kd vl aV cY : Nat → Int32),
    u = (0, 6, 7, nI mM, nI mS, nI mI, nI mc, nI sc, L, nI lc, qc, cc, na_v ar, na_v bd, na_v bv, na_v mo, na_v z, na_v fo, fa, fn, na_v od, po, wn, rt, qu, ba, pa, mO, mA, st, ct, aO, aA, oC, ou) ∧ v = (nI mM, nI mS, nI mI, nI mc, nI sc, L, nI lc, cl, na_v ar, na_v mo, na_v y, na_v fo, na_v nN, fa, na_v bd, na_v bv, na_v od, ly, rY, kd, vl, ou, st, aO, aV, cY, oC) ∧ fd_ok mM mS mI mc sc ar bd bv mo z y fo nN od fa fn ∧ (L = 0 ∨ (L = 1 ∧ lk_all mc lc bd bv z od cc cl po wn ba pa mO mA ct aO aA oC ly kd vl aV cY))
theorem i_up {k : Nat} {u : SX} {v : SY} (h : i_Rel k u v) : i_Rel (k + 4) u v := h
theorem zz_in {k mM mS mI mc sc lc : Nat} {ar bd bv mo z y fo nN od : Nat → Nat} {L qc cc cl : Int32} {fa fn po wn rt qu ba pa mO mA st ct aO aA oC ou ly rY kd vl aV cY : Nat → Int32}
    (hF : fd_ok mM mS mI mc sc ar bd bv mo z y fo nN od fa fn) (hL : L = 0 ∨ (L = 1 ∧ lk_all mc lc bd bv z od cc cl po wn ba pa mO mA ct aO aA oC ly kd vl aV cY)) : i_Rel k (0, 6, 7, nI mM, nI mS, nI mI, nI mc, nI sc, L, nI lc, qc, cc, na_v ar, na_v bd, na_v bv, na_v mo, na_v z, na_v fo, fa, fn, na_v od, po, wn, rt, qu, ba, pa, mO, mA, st, ct, aO, aA, oC, ou) (nI mM, nI mS, nI mI, nI mc, nI sc, L, nI lc, cl, na_v ar, na_v mo, na_v y, na_v fo, na_v nN, fa, na_v bd, na_v bv, na_v od, ly, rY, kd, vl, ou, st, aO, aV, cY, oC) :=
  ⟨mM, mS, mI, mc, sc, lc, ar, bd, bv, mo, z, y, fo, nN, od, L, qc, cc, cl, fa, fn, po, wn, rt, qu, ba, pa, mO, mA, st, ct, aO, aA, oC, ou, ly, rY, kd, vl, aV, cY, rfl, rfl, hF, hL⟩
theorem zz_el {k : Nat} {u : SX} {v : SY} {P : SX → SY → Prop}
    (h : ∀ {mM mS mI mc sc lc : Nat} {ar bd bv mo z y fo nN od : Nat → Nat} {L qc cc cl : Int32} {fa fn po wn rt qu ba pa mO mA st ct aO aA oC ou ly rY kd vl aV cY : Nat → Int32},
      fd_ok mM mS mI mc sc ar bd bv mo z y fo nN od fa fn → (L = 0 ∨ (L = 1 ∧ lk_all mc lc bd bv z od cc cl po wn ba pa mO mA ct aO aA oC ly kd vl aV cY)) → P (0, 6, 7, nI mM, nI mS, nI mI, nI mc, nI sc, L, nI lc, qc, cc, na_v ar, na_v bd, na_v bv, na_v mo, na_v z, na_v fo, fa, fn, na_v od, po, wn, rt, qu, ba, pa, mO, mA, st, ct, aO, aA, oC, ou) (nI mM, nI mS, nI mI, nI mc, nI sc, L, nI lc, cl, na_v ar, na_v mo, na_v y, na_v fo, na_v nN, fa, na_v bd, na_v bv, na_v od, ly, rY, kd, vl, ou, st, aO, aV, cY, oC))
    (I : i_Rel k u v) : P u v :=
  Exists.elim I fun mM I => Exists.elim I fun mS I => Exists.elim I fun mI I => Exists.elim I fun mc I => Exists.elim I fun sc I => Exists.elim I fun lc I => Exists.elim I fun ar I => Exists.elim I fun bd I => Exists.elim I fun bv I => Exists.elim I fun mo I => Exists.elim I fun z I => Exists.elim I fun y I => Exists.elim I fun fo I => Exists.elim I fun nN I => Exists.elim I fun od I => Exists.elim I fun L I => Exists.elim I fun qc I => Exists.elim I fun cc I => Exists.elim I fun cl I => Exists.elim I fun fa I => Exists.elim I fun fn I => Exists.elim I fun po I => Exists.elim I fun wn I => Exists.elim I fun rt I => Exists.elim I fun qu I => Exists.elim I fun ba I => Exists.elim I fun pa I => Exists.elim I fun mO I => Exists.elim I fun mA I => Exists.elim I fun st I => Exists.elim I fun ct I => Exists.elim I fun aO I => Exists.elim I fun aA I => Exists.elim I fun oC I => Exists.elim I fun ou I => Exists.elim I fun ly I => Exists.elim I fun rY I => Exists.elim I fun kd I => Exists.elim I fun vl I => Exists.elim I fun aV I => Exists.elim I fun cY I => by
    rw [I.1, I.2.1]
    exact h I.2.2.1 I.2.2.2
end
section
section
variable {mM mS mI mc sc lc : Nat} {ar bd bv mo z y fo nN od : Nat → Nat} {L qc cc cl : Int32} {fa fn po wn rt qu ba pa mO mA st ct aO aA oC ou ly rY kd vl aV cY : Nat → Int32}
/-! nextPlace, current -/
theorem md_np0 {post : Int32 → Prop} (hp : post (-3)) : wpX_nextPlace post (0, 6, 7, nI mM, nI mS, nI mI, nI mc, nI 0, L, nI lc, qc, cc, na_v ar, na_v bd, na_v bv, na_v mo, na_v z, na_v fo, fa, fn, na_v od, po, wn, rt, qu, ba, pa, mO, mA, st, ct, aO, aA, oC, ou) :=
  nm_r (e' := -1) (by decide) (br_t na_m1lt hp)
theorem md_np1 {post : Int32 → Prop} {s t : Nat} (hs : s < 8) (ht : t < 8) (hm : mo s < 8) (hne : mo s ≠ t) (hp : post (-3)) : wpX_nextPlace post (0, 6, 7, nI mM, nI mS, nI mI, nI (t+1), nI (s+1), L, nI lc, qc, cc, na_v ar, na_v bd, na_v bv, na_v mo, na_v z, na_v fo, fa, fn, na_v od, po, wn, rt, qu, ba, pa, mO, mA, st, ct, aO, aA, oC, ou) :=
  nm_r (nI_pred s) (br_f (nI_pos (by omega)) ⟨vp_in_nI hs (by decide),
    pk_eq (mo s) t (fun h => absurd h hne) (fun _ => hp) (na_r (by omega)) (nI_pred t) (by omega) (by omega)⟩)
theorem md_np2 {post : Int32 → Prop} {s t : Nat} (hs : s < 8) (ht : t < 8) (hm : mo s = t) (hz : 8 ≤ z s) (hz2 : z s ≤ 8) (hp : post (-2)) : wpX_nextPlace post (0, 6, 7, nI mM, nI mS, nI mI, nI (t+1), nI (s+1), L, nI lc, qc, cc, na_v ar, na_v bd, na_v bv, na_v mo, na_v z, na_v fo, fa, fn, na_v od, po, wn, rt, qu, ba, pa, mO, mA, st, ct, aO, aA, oC, ou) :=
  nm_r (nI_pred s) (br_f (nI_pos (by omega)) ⟨vp_in_nI hs (by decide),
    pk_eq (mo s) t (fun _ => ⟨vp_in_nI (by omega) (by decide), pk_lt (z s) 8 (fun h => absurd h (by omega)) (fun _ => hp) (na_r (by omega))⟩) (fun h => absurd hm h) (na_r (by omega)) (nI_pred t) (by omega) (by omega)⟩)
theorem md_np3 {post : Int32 → Prop} {s t : Nat} (hs : s < 8) (ht : t < 8) (hm : mo s = t) (hz : z s < 8) (hp : post (nI (8 * s + z s))) : wpX_nextPlace post (0, 6, 7, nI mM, nI mS, nI mI, nI (t+1), nI (s+1), L, nI lc, qc, cc, na_v ar, na_v bd, na_v bv, na_v mo, na_v z, na_v fo, fa, fn, na_v od, po, wn, rt, qu, ba, pa, mO, mA, st, ct, aO, aA, oC, ou) :=
  nm_r (nI_pred s) (br_f (nI_pos (by omega)) ⟨vp_in_nI hs (by decide),
    pk_eq (mo s) t (fun _ => ⟨vp_in_nI (by omega) (by decide), pk_lt (z s) 8 (fun _ => ⟨vp_in_nI (by omega) (by decide), ek_v (by rw [na_r (by omega), na_8]) hp⟩) (fun h => absurd hz (by omega)) (na_r (by omega))⟩) (fun h => absurd hm h) (na_r (by omega)) (nI_pred t) (by omega) (by omega)⟩)
theorem md_cu0 {post : Int32 → Prop} (hp : post (-1)) : wpY_current post (nI mM, nI mS, nI mI, nI mc, nI 0, L, nI lc, cl, na_v ar, na_v mo, na_v y, na_v fo, na_v nN, fa, na_v bd, na_v bv, na_v od, ly, rY, kd, vl, ou, st, aO, aV, cY, oC) := br_t (by decide) hp
theorem md_cu1 {post : Int32 → Prop} {s t : Nat} (hs : s < 8) (ht : t < 8) (hm : mo s < 8) (hne : mo s ≠ t) (hp : post (-1)) : wpY_current post (nI mM, nI mS, nI mI, nI (t+1), nI (s+1), L, nI lc, cl, na_v ar, na_v mo, na_v y, na_v fo, na_v nN, fa, na_v bd, na_v bv, na_v od, ly, rY, kd, vl, ou, st, aO, aV, cY, oC) :=
  br_f (nI_nle (by omega) (by omega)) ⟨na_in (nI_pred s) hs (by decide),
    pk_eq (mo s) t (fun h => absurd h hne) (fun _ => hp) (by rw [nI_pred]; exact na_r (by omega)) (nI_pred t) (by omega) (by omega)⟩
theorem md_cu2 {post : Int32 → Prop} {s t : Nat} (hs : s < 8) (ht : t < 8) (hm : mo s = t) (hp : post (nI s)) : wpY_current post (nI mM, nI mS, nI mI, nI (t+1), nI (s+1), L, nI lc, cl, na_v ar, na_v mo, na_v y, na_v fo, na_v nN, fa, na_v bd, na_v bv, na_v od, ly, rY, kd, vl, ou, st, aO, aV, cY, oC) :=
  br_f (nI_nle (by omega) (by omega)) ⟨na_in (nI_pred s) hs (by decide),
    pk_eq (mo s) t (fun _ => ek_v (nI_pred s) hp) (fun h => absurd hm h) (by rw [nI_pred]; exact na_r (by omega)) (nI_pred t) (by omega) (by omega)⟩
/-! append -/
theorem na_m3 : ¬ (0 : Int32) ≤ -3 := by decide
theorem na_m2 : ¬ (0 : Int32) ≤ -2 := by decide
theorem md_sh {z : Nat → Nat} {s : Nat} (hz : z s < 8) (hs : s < 8 := by omega) : nI (8 * s + z s) >>> ((3 : Int32) &&& 31) = nI s := by
  rw [na_s3 (by omega)]; exact congrArg nI (by omega)
theorem md_xa0 {post : Int32 → SX → Prop} {o a n : Int32} (hp : post (-3) (0, 6, 7, nI mM, nI mS, nI mI, nI mc, nI 0, L, nI lc, qc, cc, na_v ar, na_v bd, na_v bv, na_v mo, na_v z, na_v fo, fa, fn, na_v od, po, wn, rt, qu, ba, pa, mO, mA, st, ct, aO, aA, oC, ou)) : wpX_append post (0, 6, 7, nI mM, nI mS, nI mI, nI mc, nI 0, L, nI lc, qc, cc, na_v ar, na_v bd, na_v bv, na_v mo, na_v z, na_v fo, fa, fn, na_v od, po, wn, rt, qu, ba, pa, mO, mA, st, ct, aO, aA, oC, ou) o a n := by
  unfold wpX_append
  refine   md_np0 ?_
  exact br_f na_m3 hp
theorem md_xa1 {post : Int32 → SX → Prop} {o a n : Int32} {s t : Nat} (hs : s < 8) (ht : t < 8) (hm : mo s < 8) (hne : mo s ≠ t) (hp : post (-3) (0, 6, 7, nI mM, nI mS, nI mI, nI (t+1), nI (s+1), L, nI lc, qc, cc, na_v ar, na_v bd, na_v bv, na_v mo, na_v z, na_v fo, fa, fn, na_v od, po, wn, rt, qu, ba, pa, mO, mA, st, ct, aO, aA, oC, ou)) : wpX_append post (0, 6, 7, nI mM, nI mS, nI mI, nI (t+1), nI (s+1), L, nI lc, qc, cc, na_v ar, na_v bd, na_v bv, na_v mo, na_v z, na_v fo, fa, fn, na_v od, po, wn, rt, qu, ba, pa, mO, mA, st, ct, aO, aA, oC, ou) o a n := by
  unfold wpX_append
  refine   md_np1 hs ht hm hne ?_
  exact br_f na_m3 hp
theorem md_xa2 {post : Int32 → SX → Prop} {o a n : Int32} {s t : Nat} (hs : s < 8) (ht : t < 8) (hm : mo s = t) (hz : 8 ≤ z s) (hz2 : z s ≤ 8) (hp : post (-2) (0, 6, 7, nI mM, nI mS, nI mI, nI (t+1), nI (s+1), L, nI lc, qc, cc, na_v ar, na_v bd, na_v bv, na_v mo, na_v z, na_v fo, fa, fn, na_v od, po, wn, rt, qu, ba, pa, mO, mA, st, ct, aO, aA, oC, ou)) : wpX_append post (0, 6, 7, nI mM, nI mS, nI mI, nI (t+1), nI (s+1), L, nI lc, qc, cc, na_v ar, na_v bd, na_v bv, na_v mo, na_v z, na_v fo, fa, fn, na_v od, po, wn, rt, qu, ba, pa, mO, mA, st, ct, aO, aA, oC, ou) o a n := by
  unfold wpX_append
  refine   md_np2 hs ht hm hz hz2 ?_
  exact br_f na_m2 hp
theorem md_xa3 {post : Int32 → SX → Prop} {o : Nat} {a n : Int32} {s t : Nat} (hs : s < 8) (ht : t < 8) (hm : mo s = t) (hz : z s < 8)
    (hp : post (nI (8 * s + z s)) (0, 6, 7, nI mM, nI mS, nI mI, nI (t+1), nI (s+1), 0, nI lc, qc, cc, na_v ar, na_v bd, na_v bv, na_v mo, na_v (na_u z s (z s + 1)), na_v (na_u fo (8 * s + z s) o), upd fa (8 * s + z s) a, upd fn (8 * s + z s) n, na_v od, po, wn, rt, qu, ba, pa, mO, mA, st, ct, aO, aA, oC, ou)) : wpX_append post (0, 6, 7, nI mM, nI mS, nI mI, nI (t+1), nI (s+1), L, nI lc, qc, cc, na_v ar, na_v bd, na_v bv, na_v mo, na_v z, na_v fo, fa, fn, na_v od, po, wn, rt, qu, ba, pa, mO, mA, st, ct, aO, aA, oC, ou) (nI o) a n := by
  unfold wpX_append
  refine   md_np3 hs ht hm hz ?_
  exact br_t (nI_pos' (by omega)) ⟨vp_in_nI (by omega) (by decide), nm_r (na_ui (by omega)) ⟨vp_in_nI (by omega) (by decide), nm_r (na_uc (by omega)) ⟨vp_in_nI (by omega) (by decide), nm_r (na_uc (by omega))
    ⟨na_in (md_sh hz) (by omega) (by decide), na_in (md_sh hz) (by omega) (by decide),
     nm_r (e' := na_v (na_u z s (z s + 1))) (by rw [md_sh hz, na_r (by omega), nI_1, na_ui (by omega)]) hp⟩⟩⟩⟩
theorem md_ya0 {post : Int32 → SY → Prop} {o a n : Int32} (hp : post (-3) (nI mM, nI mS, nI mI, nI mc, nI 0, L, nI lc, cl, na_v ar, na_v mo, na_v y, na_v fo, na_v nN, fa, na_v bd, na_v bv, na_v od, ly, rY, kd, vl, ou, st, aO, aV, cY, oC)) : wpY_append post (nI mM, nI mS, nI mI, nI mc, nI 0, L, nI lc, cl, na_v ar, na_v mo, na_v y, na_v fo, na_v nN, fa, na_v bd, na_v bv, na_v od, ly, rY, kd, vl, ou, st, aO, aV, cY, oC) o n a := by
  unfold wpY_append
  refine   md_cu0 ?_
  exact br_f na_m1le hp
theorem md_ya1 {post : Int32 → SY → Prop} {o a n : Int32} {s t : Nat} (hs : s < 8) (ht : t < 8) (hm : mo s < 8) (hne : mo s ≠ t) (hp : post (-3) (nI mM, nI mS, nI mI, nI (t+1), nI (s+1), L, nI lc, cl, na_v ar, na_v mo, na_v y, na_v fo, na_v nN, fa, na_v bd, na_v bv, na_v od, ly, rY, kd, vl, ou, st, aO, aV, cY, oC)) : wpY_append post (nI mM, nI mS, nI mI, nI (t+1), nI (s+1), L, nI lc, cl, na_v ar, na_v mo, na_v y, na_v fo, na_v nN, fa, na_v bd, na_v bv, na_v od, ly, rY, kd, vl, ou, st, aO, aV, cY, oC) o n a := by
  unfold wpY_append
  refine   md_cu1 hs ht hm hne ?_
  exact br_f na_m1le hp
theorem md_ya2 {post : Int32 → SY → Prop} {o a n : Int32} {s t : Nat} (hs : s < 8) (ht : t < 8) (hm : mo s = t) (hz : 8 ≤ y s) (hz2 : y s ≤ 8) (hp : post (-2) (nI mM, nI mS, nI mI, nI (t+1), nI (s+1), L, nI lc, cl, na_v ar, na_v mo, na_v y, na_v fo, na_v nN, fa, na_v bd, na_v bv, na_v od, ly, rY, kd, vl, ou, st, aO, aV, cY, oC)) : wpY_append post (nI mM, nI mS, nI mI, nI (t+1), nI (s+1), L, nI lc, cl, na_v ar, na_v mo, na_v y, na_v fo, na_v nN, fa, na_v bd, na_v bv, na_v od, ly, rY, kd, vl, ou, st, aO, aV, cY, oC) o n a := by
  unfold wpY_append
  refine   md_cu2 hs ht hm ?_
  exact br_t (nI_pos' (by omega)) ⟨vp_in_nI hs (by decide), pk_lt (y s) 8 (fun h => absurd h (by omega)) (fun _ => hp) (na_r (by omega))⟩
theorem md_ya3 {post : Int32 → SY → Prop} {o n : Nat} {a : Int32} {s t : Nat} (hs : s < 8) (ht : t < 8) (hm : mo s = t) (hz : y s < 8)
    (hp : post (nI (8 * s + y s)) (nI mM, nI mS, nI mI, nI (t+1), nI (s+1), 0, nI lc, cl, na_v ar, na_v mo, na_v (na_u y s (y s + 1)), na_v (na_u fo (8 * s + y s) o), na_v (na_u nN (8 * s + y s) n), upd fa (8 * s + y s) a, na_v bd, na_v bv, na_v od, ly, rY, kd, vl, ou, st, aO, aV, cY, oC)) : wpY_append post (nI mM, nI mS, nI mI, nI (t+1), nI (s+1), L, nI lc, cl, na_v ar, na_v mo, na_v y, na_v fo, na_v nN, fa, na_v bd, na_v bv, na_v od, ly, rY, kd, vl, ou, st, aO, aV, cY, oC) (nI o) (nI n) a := by
  unfold wpY_append
  refine   md_cu2 hs ht hm ?_
  exact br_t (nI_pos' (by omega)) ⟨vp_in_nI hs (by decide), pk_lt (y s) 8 (fun _ => ⟨vp_in_nI hs (by decide),
    nm_r (e' := nI (8 * s + y s)) (by rw [na_r (by omega), na_8]) ⟨vp_in_nI (by omega) (by decide), nm_r (na_ui (by omega)) ⟨vp_in_nI (by omega) (by decide), nm_r (na_ui (by omega)) ⟨vp_in_nI (by omega) (by decide), nm_r (na_uc (by omega))
    ⟨vp_in_nI hs (by decide), vp_in_nI hs (by decide), nm_r (e' := na_v (na_u y s (y s + 1))) (by rw [na_r (by omega), nI_1, na_ui (by omega)]) hp⟩⟩⟩⟩⟩) (fun h => absurd hz (by omega)) (na_r (by omega))⟩
end
end
section
section
variable {mM mS mI mc sc lc : Nat} {ar bd bv mo z y fo nN od : Nat → Nat} {L qc cc cl : Int32} {fa fn po wn rt qu ba pa mO mA st ct aO aA oC ou ly rY kd vl aV cY : Nat → Int32}
/-! what was fed stays in order -/
theorem fd_mod {a : Nat} (hF : fd_ok mM mS mI mc sc ar bd bv mo z y fo nN od fa fn) (h : mc < mM) (ha : a < 8) : fd_ok mM mS mI (mc + 1) sc (na_u ar mc a) bd bv mo z y fo nN od fa fn := by
  obtain ⟨h1, h2, h3, h4, h5, h6, h7, h8, h9, h10, h11, h12, h13, h14, h15, h16, h17⟩ := hF
  refine ⟨by omega, fun i => ?_, h3, h4, h5, h6, h7, fun s hs => ?_, h9, h10, h11, h12, h13, h14, h15, h16, h17⟩
  · unfold na_u; split
    · exact ha
    · exact h2 i
  · have := h8 s hs; omega
theorem fd_sec {t : Nat} (hF : fd_ok mM mS mI (t + 1) sc ar bd bv mo z y fo nN od fa fn) (h : sc < mS) : fd_ok mM mS mI (t + 1) (sc + 1) ar bd bv (na_u mo sc t) z y fo nN od fa fn := by
  obtain ⟨h1, h2, h3, h4, h5, h6, h7, h8, h9, h10, h11, h12, h13, h14, h15, h16, h17⟩ := hF
  refine ⟨by omega, h2, h3, h4, h5, fun i ha hb => ?_, fun i => ?_, fun s hs => ?_, h9, h10, fun s hs => h11 s (by omega), h12, h13, h14, h15, h16, h17⟩
  · obtain ⟨a, b, c⟩ := h6 i ha hb
    exact ⟨a, by omega, by rw [na_un (by omega)]; exact c⟩
  · unfold na_u; split
    · omega
    · exact h7 i
  · unfold na_u; split
    · omega
    · exact h8 s (by omega)
theorem fd_app {s t o n : Nat} {a : Int32} (hF : fd_ok mM mS mI (t + 1) (s + 1) ar bd bv mo z y fo nN od fa fn) (hz : z s < 8) (ho : fd_op o) (hn : n < 8)
    (ha : 7 ≤ o → -7 ≤ a.toInt ∧ a.toInt ≤ 7) : fd_ok mM mS mI (t + 1) (s + 1) ar bd bv mo (na_u z s (z s + 1)) (na_u y s (y s + 1)) (na_u fo (8 * s + z s) o) (na_u nN (8 * s + z s) n) od (upd fa (8 * s + z s) a) (upd fn (8 * s + z s) (if o < 7 then -1 else nI n)) := by
  obtain ⟨h1, h2, h3, h4, h5, h6, h7, h8, h9, h10, h11, h12, h13, h14, h15, h16, h17⟩ := hF
  have hs : s < 8 := by omega
  refine ⟨h1, h2, h3, h4, h5, h6, h7, h8, fun i => ?_, fun i hi => ?_, fun i hi hi2 => ?_, fun p => ?_, fun p hp hq => ?_, fun p => ?_, fun p => ?_, fun p hp hq => ?_, h17⟩
  · unfold na_u; split
    · omega
    · exact h9 i
  · unfold na_u; split
    · next e => rw [e] at hi; rw [h10 s hi]
    · exact h10 i hi
  · rw [na_un (by omega)]; exact h11 i hi hi2
  · unfold na_u; split
    · exact ho
    · exact h12 p
  · by_cases e : p / 8 = s
    · rw [e, na_us] at hq
      rw [na_un (by omega)]
      exact h13 p hp (by rw [e]; omega)
    · rw [na_un e] at hq
      rw [na_un (by omega)]
      exact h13 p hp hq
  · unfold na_u; split
    · exact hn
    · exact h14 p
  · by_cases e : p = 8 * s + z s
    · subst e
      rw [na_us, pk_us]; exact ha
    · rw [na_un e, pk_un e]; exact h15 p
  · by_cases e : p = 8 * s + z s
    · subst e
      rw [na_us, pk_us, na_us]
    · rw [na_un e, pk_un e, na_un e]
      refine h16 p hp ?_
      by_cases e2 : p / 8 = s
      · rw [e2, na_us] at hq
        rw [e2]; omega
      · rw [na_un e2] at hq
        exact hq
theorem fd_bd {i : Nat} (hF : fd_ok mM mS mI mc sc ar bd bv mo z y fo nN od fa fn) (hi : bd i = 0) : fd_ok mM mS mI mc sc ar (na_u bd i 1) bv mo z y fo nN od fa fn := by
  obtain ⟨h1, h2, h3, h4, h5, h6, h7, h8, h9, h10, h11, h12, h13, h14, h15, h16, h17⟩ := hF
  refine ⟨h1, h2, fun j => ?_, fun j hj => ?_, fun j hj => ?_, fun j hj hk => ?_, h7, h8, h9, h10, h11, h12, h13, h14, h15, h16, h17⟩
  · unfold na_u; split
    · omega
    · exact h3 j
  · by_cases e : j = i
    · subst e; exact h4 j (by omega)
    · rw [na_un e] at hj; exact h4 j hj
  · by_cases e : j = i
    · subst e; rw [na_us] at hj; omega
    · rw [na_un e] at hj; exact h5 j hj
  · by_cases e : j = i
    · subst e; rw [na_us] at hj; omega
    · rw [na_un e] at hj hk; exact h6 j hj hk
theorem fd_sym {i b w : Nat} (hF : fd_ok mM mS mI mc sc ar bd bv mo z y fo nN od fa fn) (hb : b ≤ 6) (hw0 : b < 3 → w = 0) (hw1 : b = 6 → 1 ≤ w ∧ w ≤ 8)
    (hw2 : 3 ≤ b → b ≤ 5 → w < 64 ∧ w / 8 < sc ∧ mo (w / 8) = i / 8) : fd_ok mM mS mI mc sc ar (na_u bd i b) (na_u bv i w) mo z y fo nN od fa fn := by
  obtain ⟨h1, h2, h3, h4, h5, h6, h7, h8, h9, h10, h11, h12, h13, h14, h15, h16, h17⟩ := hF
  refine ⟨h1, h2, fun j => ?_, fun j => ?_, fun j => ?_, fun j => ?_, h7, h8, h9, h10, h11, h12, h13, h14, h15, h16, h17⟩
  · unfold na_u; split
    · omega
    · exact h3 j
  · by_cases e : j = i
    · subst e; rw [na_us, na_us]; exact hw0
    · rw [na_un e, na_un e]; exact h4 j
  · by_cases e : j = i
    · subst e; rw [na_us, na_us]; exact hw1
    · rw [na_un e, na_un e]; exact h5 j
  · by_cases e : j = i
    · subst e; rw [na_us, na_us]; exact hw2
    · rw [na_un e, na_un e]; exact h6 j
/-! module, section -/
theorem md_module {k : Nat} (v1 : Int32) (hF : fd_ok mM mS mI mc sc ar bd bv mo z y fo nN od fa fn) (hL : L = 0 ∨ (L = 1 ∧ lk_all mc lc bd bv z od cc cl po wn ba pa mO mA ct aO aA oC ly kd vl aV cY)) :
    wpX_module (fun r u' => wpY_module (fun r' v' => r' = r ∧ i_Rel k u' v') (nI mM, nI mS, nI mI, nI mc, nI sc, L, nI lc, cl, na_v ar, na_v mo, na_v y, na_v fo, na_v nN, fa, na_v bd, na_v bv, na_v od, ly, rY, kd, vl, ou, st, aO, aV, cY, oC) v1) (0, 6, 7, nI mM, nI mS, nI mI, nI mc, nI sc, L, nI lc, qc, cc, na_v ar, na_v bd, na_v bv, na_v mo, na_v z, na_v fo, fa, fn, na_v od, po, wn, rt, qu, ba, pa, mO, mA, st, ct, aO, aA, oC, ou) v1 := by
  have h1 := hF.1
  by_cases h0 : v1 < 0
  · exact br_t h0 (br_t h0 ⟨rfl, zz_in hF hL⟩)
  by_cases h7 : v1 ≤ 7
  · obtain ⟨a, ha, rfl⟩ := na_bt (N := 7) h0 h7 (by decide)
    by_cases hm : mc < mM
    · refine br_f h0 (br_t h7 (br_t (nI_lt hm (by omega)) ⟨vp_in_nI (by omega) (by decide), nm_r (na_ui (by omega)) (nm_r (nI_1 mc) ?_)⟩))
      exact br_f h0 (br_t h7 (br_t (nI_lt hm (by omega)) ⟨vp_in_nI (by omega) (by decide), nm_r (na_ui (by omega)) (nm_r (nI_1 mc) ⟨(nI_pred mc).symm, zz_in (fd_mod hF hm (by omega)) (Or.inl rfl)⟩)⟩))
    · have hn : ¬ nI mc < nI mM := nI_nlt (by omega) (by omega)
      exact br_f h0 (br_t h7 (br_f hn (br_f h0 (br_t h7 (br_f hn ⟨rfl, zz_in hF hL⟩)))))
  · exact br_f h0 (br_f h7 (br_f h0 (br_f h7 ⟨rfl, zz_in hF hL⟩)))
theorem md_section {k : Nat} (hF : fd_ok mM mS mI mc sc ar bd bv mo z y fo nN od fa fn) (hL : L = 0 ∨ (L = 1 ∧ lk_all mc lc bd bv z od cc cl po wn ba pa mO mA ct aO aA oC ly kd vl aV cY)) :
    wpX_section (fun r u' => wpY_section (fun r' v' => r' = r ∧ i_Rel k u' v') (nI mM, nI mS, nI mI, nI mc, nI sc, L, nI lc, cl, na_v ar, na_v mo, na_v y, na_v fo, na_v nN, fa, na_v bd, na_v bv, na_v od, ly, rY, kd, vl, ou, st, aO, aV, cY, oC)) (0, 6, 7, nI mM, nI mS, nI mI, nI mc, nI sc, L, nI lc, qc, cc, na_v ar, na_v bd, na_v bv, na_v mo, na_v z, na_v fo, fa, fn, na_v od, po, wn, rt, qu, ba, pa, mO, mA, st, ct, aO, aA, oC, ou) := by
  have h1 := hF.1
  by_cases h0 : mc = 0
  · subst h0
    exact br_t nI_0 (br_t nI_0 ⟨rfl, zz_in hF hL⟩)
  obtain ⟨t, rfl⟩ : ∃ t, mc = t + 1 := ⟨mc - 1, by omega⟩
  have hn : ¬ nI (t + 1) = 0 := nI_ne0 (by omega) (by omega)
  by_cases hm : sc < mS
  · refine br_f hn (br_t (nI_lt hm (by omega)) ⟨vp_in_nI (by omega) (by decide), nm_r (e' := na_v (na_u mo sc t)) (by rw [nI_pred]; exact na_ui (by omega)) (nm_r (nI_1 sc) ?_)⟩)
    exact br_f hn (br_t (nI_lt hm (by omega)) ⟨vp_in_nI (by omega) (by decide), nm_r (e' := na_v (na_u mo sc t)) (by rw [nI_pred]; exact na_ui (by omega)) (nm_r (nI_1 sc) ⟨(nI_pred sc).symm, zz_in (fd_sec hF hm) (Or.inl rfl)⟩)⟩)
  · have hq : ¬ nI sc < nI mS := nI_nlt (by omega) (by omega)
    exact br_f hn (br_f hq (br_f hn (br_f hq ⟨rfl, zz_in hF hL⟩)))
end
theorem i_vc_module {k : Nat} {u : SX} {v : SY} (I : i_Rel k u v) (hk : k + 4 ≤ 2051) (v1 : Int32) : wpX_module (fun r u' => wpY_module (fun r' v' => r' = r ∧ i_Rel (k + 4) u' v') v v1) u v1 :=
  zz_el (P := fun u v => wpX_module (fun r u' => wpY_module (fun r' v' => r' = r ∧ i_Rel (k + 4) u' v') v v1) u v1) (fun hF hL => md_module v1 hF hL) I
theorem i_vc_section {k : Nat} {u : SX} {v : SY} (I : i_Rel k u v) (hk : k + 4 ≤ 2051) : wpX_section (fun r u' => wpY_section (fun r' v' => r' = r ∧ i_Rel (k + 4) u' v') v) u :=
  zz_el (P := fun u v => wpX_section (fun r u' => wpY_section (fun r' v' => r' = r ∧ i_Rel (k + 4) u' v') v) u) (fun hF hL => md_section hF hL) I
end
section
section
variable {mM mS mI mc sc lc : Nat} {ar bd bv mo z y fo nN od : Nat → Nat} {L qc cc cl : Int32} {fa fn po wn rt qu ba pa mO mA st ct aO aA oC ou ly rY kd vl aV cY : Nat → Int32}
/-! the fed state's three cases -/
theorem fd_cs (hF : fd_ok mM mS mI mc sc ar bd bv mo z y fo nN od fa fn) :
    sc = 0 ∨ ∃ s t, sc = s + 1 ∧ mc = t + 1 ∧ s < 8 ∧ t < 8 ∧ mo s < 8 ∧ z s ≤ 8 ∧ y s = z s := by
  obtain ⟨h1, h2, h3, h4, h5, h6, h7, h8, h9, h10, h11, h12, h13, h14, h15, h16, h17⟩ := hF
  by_cases h0 : sc = 0
  · exact Or.inl h0
  · have := h8 (sc - 1) (by omega)
    exact Or.inr ⟨sc - 1, mc - 1, by omega, by omega, by omega, by omega, h7 _, h9 _, h10 _ (by omega)⟩
/-! cell -/
theorem md_cell {k : Nat} (v1 v2 : Int32) (hF : fd_ok mM mS mI mc sc ar bd bv mo z y fo nN od fa fn) (hL : L = 0 ∨ (L = 1 ∧ lk_all mc lc bd bv z od cc cl po wn ba pa mO mA ct aO aA oC ly kd vl aV cY)) :
    wpX_cell (fun r u' => wpY_cell (fun r' v' => r' = r ∧ i_Rel k u' v') (nI mM, nI mS, nI mI, nI mc, nI sc, L, nI lc, cl, na_v ar, na_v mo, na_v y, na_v fo, na_v nN, fa, na_v bd, na_v bv, na_v od, ly, rY, kd, vl, ou, st, aO, aV, cY, oC) v1 v2) (0, 6, 7, nI mM, nI mS, nI mI, nI mc, nI sc, L, nI lc, qc, cc, na_v ar, na_v bd, na_v bv, na_v mo, na_v z, na_v fo, fa, fn, na_v od, po, wn, rt, qu, ba, pa, mO, mA, st, ct, aO, aA, oC, ou) v1 v2 := by
  by_cases h0 : v1 < 0
  · exact br_t h0 (br_t h0 ⟨rfl, zz_in hF hL⟩)
  by_cases h5 : v1 ≤ 5
  · obtain ⟨o, ho, rfl⟩ := na_bt (N := 5) h0 h5 (by decide)
    rcases fd_cs hF with rfl | ⟨s, t, rfl, rfl, hs, ht, hm, hz, hy⟩
    · refine br_f h0 (br_t h5 (md_xa0 ?_))
      exact br_f h0 (br_t h5 (md_ya0 ⟨rfl, zz_in hF hL⟩))
    by_cases hne : mo s = t
    · by_cases hz8 : z s < 8
      · refine br_f h0 (br_t h5 (md_xa3 hs ht hne hz8 ?_))
        refine br_f h0 (br_t h5 (md_ya3 (n := 0) hs ht hne (by omega) ?_))
        rw [hy]
        have hh := fd_app (a := v2) (o := o) (n := 0) hF hz8 (Or.inl ho) (by omega) (fun h => absurd h (by omega))
        rw [if_pos (by omega), hy] at hh
        exact ⟨rfl, zz_in hh (Or.inl rfl)⟩
      · refine br_f h0 (br_t h5 (md_xa2 hs ht hne (by omega) hz ?_))
        exact br_f h0 (br_t h5 (md_ya2 hs ht hne (by omega) (by omega) ⟨rfl, zz_in hF hL⟩))
    · refine br_f h0 (br_t h5 (md_xa1 hs ht hm hne ?_))
      exact br_f h0 (br_t h5 (md_ya1 hs ht hm hne ⟨rfl, zz_in hF hL⟩))
  · exact br_f h0 (br_f h5 (br_f h0 (br_f h5 ⟨rfl, zz_in hF hL⟩)))
/-! reloc -/
theorem md_rl {k : Nat} {o n : Nat} {a : Int32} (hF : fd_ok mM mS mI mc sc ar bd bv mo z y fo nN od fa fn) (hL : L = 0 ∨ (L = 1 ∧ lk_all mc lc bd bv z od cc cl po wn ba pa mO mA ct aO aA oC ly kd vl aV cY))
    (ho : 7 ≤ o ∧ o ≤ 22 ∧ o ≠ 15) (hn : n ≤ 7) (ha0 : ¬ a < -7) (ha1 : a ≤ 7) :
    wpX_reloc (fun r u' => wpY_reloc (fun r' v' => r' = r ∧ i_Rel k u' v') (nI mM, nI mS, nI mI, nI mc, nI sc, L, nI lc, cl, na_v ar, na_v mo, na_v y, na_v fo, na_v nN, fa, na_v bd, na_v bv, na_v od, ly, rY, kd, vl, ou, st, aO, aV, cY, oC) (nI o) (nI n) a) (0, 6, 7, nI mM, nI mS, nI mI, nI mc, nI sc, L, nI lc, qc, cc, na_v ar, na_v bd, na_v bv, na_v mo, na_v z, na_v fo, fa, fn, na_v od, po, wn, rt, qu, ba, pa, mO, mA, st, ct, aO, aA, oC, ou) (nI o) (nI n) a := by
  have q1 : ¬ nI o < 7 := nI_nlt (b := 7) (by omega) (by omega)
  have q2 : ¬ (22 : Int32) < nI o := nI_nlt (a := 22) (by omega) (by decide)
  have q3 : ¬ nI o = 15 := fun e => ho.2.2 (na_im (b := 15) e (by omega) (by decide))
  have q4 : ¬ nI n < 0 := nI_pos (by omega)
  have q5 : nI n ≤ 7 := nI_le (b := 7) hn (by decide)
  have q6 : ¬ (7 : Int32) < nI n := nI_nlt (a := 7) hn (by decide)
  have hai : -7 ≤ a.toInt ∧ a.toInt ≤ 7 := by
    rw [Int32.lt_iff_toInt_lt] at ha0
    rw [Int32.le_iff_toInt_le] at ha1
    have e1 : (-7 : Int32).toInt = -7 := by decide
    have e2 : (7 : Int32).toInt = 7 := by decide
    omega
  rcases fd_cs hF with rfl | ⟨s, t, rfl, rfl, hs, ht, hm, hz, hy⟩
  · refine br_f q1 (br_f q2 (br_f q3 (br_f q4 (br_t q5 (br_f ha0 (br_t ha1 (md_xa0 (br_f na_m3 ?_))))))))
    exact br_f q1 (br_f q3 (br_f q2 (br_f q4 (br_f q6 (br_f ha0 (br_t ha1 (md_ya0 (br_t (by decide) ⟨rfl, zz_in hF hL⟩))))))))
  by_cases hne : mo s = t
  · by_cases hz8 : z s < 8
    · have hh := fd_app (a := a) (o := o) (n := n) hF hz8 (Or.inr (by omega)) (by omega) (fun _ => hai)
      rw [if_neg (by omega)] at hh
      have hp0 : (0 : Int32) ≤ nI (8 * s + z s) := nI_pos' (by omega)
      have hp1 : ¬ nI (8 * s + z s) < 0 := nI_pos (by omega)
      have e8 : 8 * (nI (t + 1) - 1) + nI n = nI (8 * t + n) := by rw [nI_pred, na_8]
      have hin : vp_in (8 * (nI (t + 1) - 1) + nI n) 64 := na_in e8 (by omega) (by decide)
      have er : na_v bd (8 * (nI (t + 1) - 1) + nI n).toNatClampNeg = nI (bd (8 * t + n)) := by rw [e8]; exact na_r (by omega)
      have eb := hF.2.2.1 (8 * t + n)
      by_cases hb : bd (8 * t + n) = 0
      · have hb' : na_v bd (8 * (nI (t + 1) - 1) + nI n).toNatClampNeg = 0 := by rw [er, hb]; exact nI_0
        have eu : upd (na_v bd) (8 * (nI (t + 1) - 1) + nI n).toNatClampNeg 1 = na_v (na_u bd (8 * t + n) 1) := by rw [e8]; exact na_ui (by omega)
        refine br_f q1 (br_f q2 (br_f q3 (br_f q4 (br_t q5 (br_f ha0 (br_t ha1 (md_xa3 hs ht hne hz8 (br_t hp0 (nm_e ⟨hin, br_t hb' ⟨hin, nm_r eu ?_⟩⟩)))))))))
        refine br_f q1 (br_f q3 (br_f q2 (br_f q4 (br_f q6 (br_f ha0 (br_t ha1 (md_ya3 (n := n) hs ht hne (by omega) ?_)))))))
        rw [hy]
        rw [hy] at hh
        exact br_f hp1 ⟨hin, br_t hb' ⟨hin, nm_r eu ⟨rfl, zz_in (fd_bd hh hb) (Or.inl rfl)⟩⟩⟩
      · have hb' : ¬ na_v bd (8 * (nI (t + 1) - 1) + nI n).toNatClampNeg = 0 := by rw [er]; exact nI_ne0 (by omega) (by omega)
        refine br_f q1 (br_f q2 (br_f q3 (br_f q4 (br_t q5 (br_f ha0 (br_t ha1 (md_xa3 hs ht hne hz8 (br_t hp0 (nm_e ⟨hin, br_f hb' ?_⟩)))))))))
        refine br_f q1 (br_f q3 (br_f q2 (br_f q4 (br_f q6 (br_f ha0 (br_t ha1 (md_ya3 (n := n) hs ht hne (by omega) ?_)))))))
        rw [hy]
        rw [hy] at hh
        exact br_f hp1 ⟨hin, br_f hb' ⟨rfl, zz_in hh (Or.inl rfl)⟩⟩
    · refine br_f q1 (br_f q2 (br_f q3 (br_f q4 (br_t q5 (br_f ha0 (br_t ha1 (md_xa2 hs ht hne (by omega) hz (br_f na_m2 ?_))))))))
      exact br_f q1 (br_f q3 (br_f q2 (br_f q4 (br_f q6 (br_f ha0 (br_t ha1 (md_ya2 hs ht hne (by omega) (by omega) (br_t (by decide) ⟨rfl, zz_in hF hL⟩))))))))
  · refine br_f q1 (br_f q2 (br_f q3 (br_f q4 (br_t q5 (br_f ha0 (br_t ha1 (md_xa1 hs ht hm hne (br_f na_m3 ?_))))))))
    exact br_f q1 (br_f q3 (br_f q2 (br_f q4 (br_f q6 (br_f ha0 (br_t ha1 (md_ya1 hs ht hm hne (br_t (by decide) ⟨rfl, zz_in hF hL⟩))))))))
theorem md_reloc {k : Nat} (v1 v2 v3 : Int32) (hF : fd_ok mM mS mI mc sc ar bd bv mo z y fo nN od fa fn) (hL : L = 0 ∨ (L = 1 ∧ lk_all mc lc bd bv z od cc cl po wn ba pa mO mA ct aO aA oC ly kd vl aV cY)) :
    wpX_reloc (fun r u' => wpY_reloc (fun r' v' => r' = r ∧ i_Rel k u' v') (nI mM, nI mS, nI mI, nI mc, nI sc, L, nI lc, cl, na_v ar, na_v mo, na_v y, na_v fo, na_v nN, fa, na_v bd, na_v bv, na_v od, ly, rY, kd, vl, ou, st, aO, aV, cY, oC) v1 v2 v3) (0, 6, 7, nI mM, nI mS, nI mI, nI mc, nI sc, L, nI lc, qc, cc, na_v ar, na_v bd, na_v bv, na_v mo, na_v z, na_v fo, fa, fn, na_v od, po, wn, rt, qu, ba, pa, mO, mA, st, ct, aO, aA, oC, ou) v1 v2 v3 := by
  by_cases h7 : v1 < 7
  · exact br_t h7 (br_t h7 ⟨rfl, zz_in hF hL⟩)
  by_cases h22 : 22 < v1
  · have h15 : ¬ v1 = 15 := fun e => by subst e; exact absurd h22 (by decide)
    exact br_f h7 (br_t h22 (br_f h7 (br_f h15 (br_t h22 ⟨rfl, zz_in hF hL⟩))))
  by_cases h15 : v1 = 15
  · exact br_f h7 (br_f h22 (br_t h15 (br_f h7 (br_t h15 ⟨rfl, zz_in hF hL⟩))))
  by_cases g0 : v2 < 0
  · exact br_f h7 (br_f h22 (br_f h15 (br_t g0 (br_f h7 (br_f h15 (br_f h22 (br_t g0 ⟨rfl, zz_in hF hL⟩)))))))
  by_cases g7 : v2 ≤ 7
  · have g7' : ¬ (7 : Int32) < v2 := Int32.not_lt.mpr g7
    by_cases k0 : v3 < -7
    · exact br_f h7 (br_f h22 (br_f h15 (br_f g0 (br_t g7 (br_t k0 (br_f h7 (br_f h15 (br_f h22 (br_f g0 (br_f g7' (br_t k0 ⟨rfl, zz_in hF hL⟩)))))))))))
    by_cases k7 : v3 ≤ 7
    · have h0 : ¬ v1 < 0 := fun e => h7 (by
        rw [Int32.lt_iff_toInt_lt] at e ⊢
        have e1 : (0 : Int32).toInt = 0 := by decide
        have e2 : (7 : Int32).toInt = 7 := by decide
        omega)
      obtain ⟨o, ho, rfl⟩ := nI_of h0
      obtain ⟨n, hn, rfl⟩ := na_bt (N := 7) g0 g7 (by decide)
      have a1 : 7 ≤ o := by
        have := mt (nI_lt (a := o) (b := 7) · (by decide)) h7
        omega
      have a2 : o ≤ 22 := by
        have := mt (nI_lt (a := 22) (b := o) · ho) h22
        omega
      exact md_rl hF hL ⟨a1, a2, fun e => h15 (by rw [e]; rfl)⟩ hn k0 k7
    · exact br_f h7 (br_f h22 (br_f h15 (br_f g0 (br_t g7 (br_f k0 (br_f k7 (br_f h7 (br_f h15 (br_f h22 (br_f g0 (br_f g7' (br_f k0 (br_f k7 ⟨rfl, zz_in hF hL⟩)))))))))))))
  · have g7' : (7 : Int32) < v2 := Int32.not_le.mp g7
    exact br_f h7 (br_f h22 (br_f h15 (br_f g0 (br_f g7 (br_f h7 (br_f h15 (br_f h22 (br_f g0 (br_t g7' ⟨rfl, zz_in hF hL⟩)))))))))
end
theorem i_vc_cell {k : Nat} {u : SX} {v : SY} (I : i_Rel k u v) (hk : k + 4 ≤ 2051) (v1 : Int32) (v2 : Int32) : wpX_cell (fun r u' => wpY_cell (fun r' v' => r' = r ∧ i_Rel (k + 4) u' v') v v1 v2) u v1 v2 :=
  zz_el (P := fun u v => wpX_cell (fun r u' => wpY_cell (fun r' v' => r' = r ∧ i_Rel (k + 4) u' v') v v1 v2) u v1 v2) (fun hF hL => md_cell v1 v2 hF hL) I
theorem i_vc_reloc {k : Nat} {u : SX} {v : SY} (I : i_Rel k u v) (hk : k + 4 ≤ 2051) (v1 : Int32) (v2 : Int32) (v3 : Int32) : wpX_reloc (fun r u' => wpY_reloc (fun r' v' => r' = r ∧ i_Rel (k + 4) u' v') v v1 v2 v3) u v1 v2 v3 :=
  zz_el (P := fun u v => wpX_reloc (fun r u' => wpY_reloc (fun r' v' => r' = r ∧ i_Rel (k + 4) u' v') v v1 v2 v3) u v1 v2 v3) (fun hF hL => md_reloc v1 v2 v3 hF hL) I
end
section
section
variable {mM mS mI mc sc lc : Nat} {ar bd bv mo z y fo nN od : Nat → Nat} {L qc cc cl : Int32} {fa fn po wn rt qu ba pa mO mA st ct aO aA oC ou ly rY kd vl aV cY : Nat → Int32}
/-! symbol -/
theorem na_p2 {σ : Type} {post : Int32 → σ → Prop} {a b : Int32} {u : σ} (e : a = b) (h : post b u) : post a u := by rw [e]; exact h
theorem md_x6 {post : Int32 → SX → Prop} {i b w : Nat} {x5 : Int32} (hi : i < 64) (hb : b = 6) (hp : post x5 (0, 6, 7, nI mM, nI mS, nI mI, nI mc, nI sc, 0, nI lc, qc, cc, na_v ar, na_v (na_u bd i b), na_v (na_u bv i w), na_v mo, na_v z, na_v fo, fa, fn, na_v od, po, wn, rt, qu, ba, pa, mO, mA, st, ct, aO, aA, oC, ou)) : wX_symbol_106 post (nI b) (nI w) (nI i) x5 0 6 7 (nI mM) (nI mS) (nI mI) (nI mc) (nI sc) L (nI lc) qc cc (na_v ar) (na_v bd) (na_v bv) (na_v mo) (na_v z) (na_v fo) fa fn (na_v od) po wn rt qu ba pa mO mA st ct aO aA oC ou :=
  ⟨vp_in_nI hi (by decide), nm_r (na_ui (by omega)) (br_t (by rw [hb]; rfl) ⟨vp_in_nI hi (by decide), nm_r (na_ui (by omega)) hp⟩)⟩
theorem md_x7 {post : Int32 → SX → Prop} {i b a : Nat} {x3 : Int32} (hi : i < 64) (hb : b ≤ 6) (hb6 : b ≠ 6) (hp : post (nI a) (0, 6, 7, nI mM, nI mS, nI mI, nI mc, nI sc, 0, nI lc, qc, cc, na_v ar, na_v (na_u bd i b), na_v (na_u bv i a), na_v mo, na_v z, na_v fo, fa, fn, na_v od, po, wn, rt, qu, ba, pa, mO, mA, st, ct, aO, aA, oC, ou)) : wX_symbol_106 post (nI b) x3 (nI i) (nI a) 0 6 7 (nI mM) (nI mS) (nI mI) (nI mc) (nI sc) L (nI lc) qc cc (na_v ar) (na_v bd) (na_v bv) (na_v mo) (na_v z) (na_v fo) fa fn (na_v od) po wn rt qu ba pa mO mA st ct aO aA oC ou :=
  ⟨vp_in_nI hi (by decide), nm_r (na_ui (by omega)) (br_f (fun e => hb6 (na_im (b := 6) e (by omega) (by decide))) ⟨vp_in_nI hi (by decide), nm_r (na_ui (by omega)) hp⟩)⟩
theorem md_y6 {post : Int32 → SY → Prop} {i b w : Nat} {r : Int32} (hi : i < 64) (hb : b = 6) (hp : post 0 (nI mM, nI mS, nI mI, nI mc, nI sc, 0, nI lc, cl, na_v ar, na_v mo, na_v y, na_v fo, na_v nN, fa, na_v (na_u bd i b), na_v (na_u bv i w), na_v od, ly, rY, kd, vl, ou, st, aO, aV, cY, oC)) : wY_symbol_99 post (nI b) (nI w) (nI i) r (nI mM) (nI mS) (nI mI) (nI mc) (nI sc) L (nI lc) cl (na_v ar) (na_v mo) (na_v y) (na_v fo) (na_v nN) fa (na_v bd) (na_v bv) (na_v od) ly rY kd vl ou st aO aV cY oC :=
  br_t rfl (br_t rfl ⟨vp_in_nI hi (by decide), nm_r (na_ui (by omega)) (br_t rfl (br_t (by rw [hb]; rfl) ⟨vp_in_nI hi (by decide), nm_r (na_ui (by omega)) (br_t rfl hp)⟩))⟩)
theorem md_y7 {post : Int32 → SY → Prop} {i b : Nat} {r x3 : Int32} (hi : i < 64) (hb : b ≤ 6) (hb6 : b ≠ 6) (hp : post 0 (nI mM, nI mS, nI mI, nI mc, nI sc, 0, nI lc, cl, na_v ar, na_v mo, na_v y, na_v fo, na_v nN, fa, na_v (na_u bd i b), na_v (na_u bv i 0), na_v od, ly, rY, kd, vl, ou, st, aO, aV, cY, oC)) : wY_symbol_99 post (nI b) x3 (nI i) r (nI mM) (nI mS) (nI mI) (nI mc) (nI sc) L (nI lc) cl (na_v ar) (na_v mo) (na_v y) (na_v fo) (na_v nN) fa (na_v bd) (na_v bv) (na_v od) ly rY kd vl ou st aO aV cY oC :=
  br_t rfl (br_t rfl ⟨vp_in_nI hi (by decide), nm_r (na_ui (by omega)) (br_t rfl (br_f (fun e => hb6 (na_im (b := 6) e (by omega) (by decide))) ⟨vp_in_nI hi (by decide), nm_r (na_ui (x := 0) (by omega)) (br_t rfl hp)⟩))⟩)
theorem md_yp {post : Int32 → SY → Prop} {i b s : Nat} {x3 : Int32} (hi : i < 64) (hs : s < 8) (hy : y s < 8) (hp : post (nI (8 * s + y s)) (nI mM, nI mS, nI mI, nI mc, nI sc, 0, nI lc, cl, na_v ar, na_v mo, na_v y, na_v fo, na_v nN, fa, na_v (na_u bd i b), na_v (na_u bv i (8 * s + y s)), na_v od, ly, rY, kd, vl, ou, st, aO, aV, cY, oC)) : wY_symbol_100 post (nI b) x3 (nI i) (nI s) 1 (nI mM) (nI mS) (nI mI) (nI mc) (nI sc) L (nI lc) cl (na_v ar) (na_v mo) (na_v y) (na_v fo) (na_v nN) fa (na_v bd) (na_v bv) (na_v od) ly rY kd vl ou st aO aV cY oC :=
  br_f (by decide) (br_t (nI_pos' (by omega)) (br_f (by decide) ⟨vp_in_nI hs (by decide), pk_lt (y s) 8 (fun _ =>
    ⟨vp_in_nI hi (by decide), nm_r (na_ui (by omega)) (br_f (by decide) ⟨vp_in_nI hs (by decide), ⟨vp_in_nI hi (by decide),
      nm_r (e' := na_v (na_u bv i (8 * s + y s))) (by rw [na_r (by omega), na_8]; exact na_ui (by omega)) (br_f (by decide) ⟨vp_in_nI hi (by decide), na_p2 (by rw [na_r (by omega), na_us]) hp⟩)⟩⟩)⟩)
    (fun h => absurd hy (by omega)) (na_r (by omega))⟩))
theorem md_yn {post : Int32 → SY → Prop} {x2 x3 x4 : Int32} (hp : post (-3) (nI mM, nI mS, nI mI, nI mc, nI sc, L, nI lc, cl, na_v ar, na_v mo, na_v y, na_v fo, na_v nN, fa, na_v bd, na_v bv, na_v od, ly, rY, kd, vl, ou, st, aO, aV, cY, oC)) : wY_symbol_100 post x2 x3 x4 (-1) 1 (nI mM) (nI mS) (nI mI) (nI mc) (nI sc) L (nI lc) cl (na_v ar) (na_v mo) (na_v y) (na_v fo) (na_v nN) fa (na_v bd) (na_v bv) (na_v od) ly rY kd vl ou st aO aV cY oC :=
  br_f (by decide) (br_f na_m1le hp)
theorem md_yf {post : Int32 → SY → Prop} {s : Nat} {x2 x3 x4 : Int32} (hs : s < 8) (hy : 8 ≤ y s) (hy8 : y s ≤ 8) (hp : post (-2) (nI mM, nI mS, nI mI, nI mc, nI sc, L, nI lc, cl, na_v ar, na_v mo, na_v y, na_v fo, na_v nN, fa, na_v bd, na_v bv, na_v od, ly, rY, kd, vl, ou, st, aO, aV, cY, oC)) : wY_symbol_100 post x2 x3 x4 (nI s) 1 (nI mM) (nI mS) (nI mI) (nI mc) (nI sc) L (nI lc) cl (na_v ar) (na_v mo) (na_v y) (na_v fo) (na_v nN) fa (na_v bd) (na_v bv) (na_v od) ly rY kd vl ou st aO aV cY oC :=
  br_f (by decide) (br_t (nI_pos' (by omega)) (br_f (by decide) ⟨vp_in_nI hs (by decide), pk_lt (y s) 8 (fun h => absurd h (by omega)) (fun _ => hp) (na_r (by omega))⟩))
theorem md_cu (hF : fd_ok mM mS mI mc sc ar bd bv mo z y fo nN od fa fn) : ∃ r, ∀ post : Int32 → Prop, post r → wpY_current post (nI mM, nI mS, nI mI, nI mc, nI sc, L, nI lc, cl, na_v ar, na_v mo, na_v y, na_v fo, na_v nN, fa, na_v bd, na_v bv, na_v od, ly, rY, kd, vl, ou, st, aO, aV, cY, oC) := by
  rcases fd_cs hF with rfl | ⟨s, t, rfl, rfl, hs, ht, hm, hz, hy⟩
  · exact ⟨-1, fun post hp => md_cu0 hp⟩
  by_cases hne : mo s = t
  · exact ⟨nI s, fun post hp => md_cu2 hs ht hne hp⟩
  · exact ⟨-1, fun post hp => md_cu1 hs ht hm hne hp⟩
theorem md_sy {k n b : Nat} {x3 : Int32} (hn : n ≤ 7) (hb0 : 1 ≤ b) (hb : b ≤ 6) (h6 : b = 6 → ∃ w, 1 ≤ w ∧ w ≤ 8 ∧ x3 = nI w)
    (hF : fd_ok mM mS mI mc sc ar bd bv mo z y fo nN od fa fn) (hL : L = 0 ∨ (L = 1 ∧ lk_all mc lc bd bv z od cc cl po wn ba pa mO mA ct aO aA oC ly kd vl aV cY)) :
    ∃ r u' v', i_Rel k u' v' ∧ (∀ post : Int32 → SX → Prop, post r u' → wX_symbol_44 post (nI n) (nI b) x3 0 6 7 (nI mM) (nI mS) (nI mI) (nI mc) (nI sc) L (nI lc) qc cc (na_v ar) (na_v bd) (na_v bv) (na_v mo) (na_v z) (na_v fo) fa fn (na_v od) po wn rt qu ba pa mO mA st ct aO aA oC ou) ∧ (∀ post : Int32 → SY → Prop, post r v' → wY_symbol_42 post (nI n) (nI b) x3 (nI mM) (nI mS) (nI mI) (nI mc) (nI sc) L (nI lc) cl (na_v ar) (na_v mo) (na_v y) (na_v fo) (na_v nN) fa (na_v bd) (na_v bv) (na_v od) ly rY kd vl ou st aO aV cY oC) := by
  have h1 := hF.1
  by_cases h0 : mc = 0
  · subst h0
    exact ⟨-3, (0, 6, 7, nI mM, nI mS, nI mI, nI 0, nI sc, L, nI lc, qc, cc, na_v ar, na_v bd, na_v bv, na_v mo, na_v z, na_v fo, fa, fn, na_v od, po, wn, rt, qu, ba, pa, mO, mA, st, ct, aO, aA, oC, ou), (nI mM, nI mS, nI mI, nI 0, nI sc, L, nI lc, cl, na_v ar, na_v mo, na_v y, na_v fo, na_v nN, fa, na_v bd, na_v bv, na_v od, ly, rY, kd, vl, ou, st, aO, aV, cY, oC), zz_in hF hL, fun post hp => br_t nI_0 hp, fun post hp => br_t nI_0 hp⟩
  obtain ⟨t, rfl⟩ : ∃ t, mc = t + 1 := ⟨mc - 1, by omega⟩
  have hn0 : ¬ nI (t + 1) = 0 := nI_ne0 (by omega) (by omega)
  have e8 : 8 * (nI (t + 1) - 1) + nI n = nI (8 * t + n) := by rw [nI_pred, na_8]
  have hi : 8 * t + n < 64 := by omega
  have hin : vp_in (nI (8 * t + n)) 64 := vp_in_nI hi (by decide)
  have hb7 := hF.2.2.1 (8 * t + n)
  by_cases hb3 : 3 ≤ bd (8 * t + n)
  · obtain ⟨rc, hrc⟩ := md_cu (lc := lc) (L := L) (cl := cl) (ly := ly) (rY := rY) (kd := kd) (vl := vl) (ou := ou) (st := st) (aO := aO) (aV := aV) (cY := cY) (oC := oC) hF
    have hc : ¬ na_v bd (nI (8 * t + n)).toNatClampNeg < 3 := by rw [na_r (by omega)]; exact nI_nlt (b := 3) hb3 (by omega)
    exact ⟨-4, (0, 6, 7, nI mM, nI mS, nI mI, nI (t+1), nI sc, L, nI lc, qc, cc, na_v ar, na_v bd, na_v bv, na_v mo, na_v z, na_v fo, fa, fn, na_v od, po, wn, rt, qu, ba, pa, mO, mA, st, ct, aO, aA, oC, ou), (nI mM, nI mS, nI mI, nI (t+1), nI sc, L, nI lc, cl, na_v ar, na_v mo, na_v y, na_v fo, na_v nN, fa, na_v bd, na_v bv, na_v od, ly, rY, kd, vl, ou, st, aO, aV, cY, oC), zz_in hF hL, fun post hp => br_f hn0 (nm_r e8 ⟨hin, br_f hc hp⟩), fun post hp => br_f hn0 (nm_r e8 (hrc _ ⟨hin, br_f hc hp⟩))⟩
  have hc : na_v bd (nI (8 * t + n)).toNatClampNeg < 3 := by rw [na_r (by omega)]; exact nI_lt (b := 3) (by omega) (by decide)
  by_cases hpl : 3 ≤ b ∧ b ≤ 5
  · have p1 : ¬ nI b < 3 := nI_nlt (b := 3) hpl.1 (by omega)
    have p2 : ¬ (5 : Int32) < nI b := nI_nlt (a := 5) hpl.2 (by decide)
    rcases fd_cs hF with rfl | ⟨s, t', rfl, et, hs, ht, hm, hz, hy⟩
    · exact ⟨-3, (0, 6, 7, nI mM, nI mS, nI mI, nI (t+1), nI 0, L, nI lc, qc, cc, na_v ar, na_v bd, na_v bv, na_v mo, na_v z, na_v fo, fa, fn, na_v od, po, wn, rt, qu, ba, pa, mO, mA, st, ct, aO, aA, oC, ou), (nI mM, nI mS, nI mI, nI (t+1), nI 0, L, nI lc, cl, na_v ar, na_v mo, na_v y, na_v fo, na_v nN, fa, na_v bd, na_v bv, na_v od, ly, rY, kd, vl, ou, st, aO, aV, cY, oC), zz_in hF hL,
        fun post hp => br_f hn0 (nm_r e8 ⟨hin, br_t hc (br_f p1 (br_f p2 (br_f (by decide) (md_np0 (br_f na_m3 hp)))))⟩),
        fun post hp => br_f hn0 (nm_r e8 (md_cu0 ⟨hin, br_t hc (br_f p1 (br_f p2 (md_yn hp)))⟩))⟩
    obtain rfl : t = t' := by omega
    by_cases hne : mo s = t
    · by_cases hz8 : z s < 8
      · have hF' := fd_sym (i := 8 * t + n) (b := b) (w := 8 * s + z s) hF hb (fun h => absurd h (by omega)) (fun h => absurd h (by omega)) (fun _ _ => ⟨by omega, by omega, by rw [show (8 * s + z s) / 8 = s from by omega, hne]; omega⟩)
        refine ⟨nI (8 * s + z s), (0, 6, 7, nI mM, nI mS, nI mI, nI (t+1), nI (s+1), 0, nI lc, qc, cc, na_v ar, na_v (na_u bd (8 * t + n) b), na_v (na_u bv (8 * t + n) (8 * s + z s)), na_v mo, na_v z, na_v fo, fa, fn, na_v od, po, wn, rt, qu, ba, pa, mO, mA, st, ct, aO, aA, oC, ou), (nI mM, nI mS, nI mI, nI (t+1), nI (s+1), 0, nI lc, cl, na_v ar, na_v mo, na_v y, na_v fo, na_v nN, fa, na_v (na_u bd (8 * t + n) b), na_v (na_u bv (8 * t + n) (8 * s + z s)), na_v od, ly, rY, kd, vl, ou, st, aO, aV, cY, oC), zz_in hF' (Or.inl rfl),
          fun post hp => br_f hn0 (nm_r e8 ⟨hin, br_t hc (br_f p1 (br_f p2 (br_f (by decide) (md_np3 hs ht hne hz8 (br_t (nI_pos' (by omega)) (md_x7 hi hb (by omega) hp))))))⟩),
          fun post hp => br_f hn0 (nm_r e8 (md_cu2 hs ht hne ⟨hin, br_t hc (br_f p1 (br_f p2 (md_yp hi hs (by omega) ?_)))⟩))⟩
        rw [hy]; exact hp
      · exact ⟨-2, (0, 6, 7, nI mM, nI mS, nI mI, nI (t+1), nI (s+1), L, nI lc, qc, cc, na_v ar, na_v bd, na_v bv, na_v mo, na_v z, na_v fo, fa, fn, na_v od, po, wn, rt, qu, ba, pa, mO, mA, st, ct, aO, aA, oC, ou), (nI mM, nI mS, nI mI, nI (t+1), nI (s+1), L, nI lc, cl, na_v ar, na_v mo, na_v y, na_v fo, na_v nN, fa, na_v bd, na_v bv, na_v od, ly, rY, kd, vl, ou, st, aO, aV, cY, oC), zz_in hF hL,
          fun post hp => br_f hn0 (nm_r e8 ⟨hin, br_t hc (br_f p1 (br_f p2 (br_f (by decide) (md_np2 hs ht hne (by omega) hz (br_f na_m2 hp)))))⟩),
          fun post hp => br_f hn0 (nm_r e8 (md_cu2 hs ht hne ⟨hin, br_t hc (br_f p1 (br_f p2 (md_yf hs (by omega) (by omega) hp)))⟩))⟩
    · exact ⟨-3, (0, 6, 7, nI mM, nI mS, nI mI, nI (t+1), nI (s+1), L, nI lc, qc, cc, na_v ar, na_v bd, na_v bv, na_v mo, na_v z, na_v fo, fa, fn, na_v od, po, wn, rt, qu, ba, pa, mO, mA, st, ct, aO, aA, oC, ou), (nI mM, nI mS, nI mI, nI (t+1), nI (s+1), L, nI lc, cl, na_v ar, na_v mo, na_v y, na_v fo, na_v nN, fa, na_v bd, na_v bv, na_v od, ly, rY, kd, vl, ou, st, aO, aV, cY, oC), zz_in hF hL,
        fun post hp => br_f hn0 (nm_r e8 ⟨hin, br_t hc (br_f p1 (br_f p2 (br_f (by decide) (md_np1 hs ht hm hne (br_f na_m3 hp)))))⟩),
        fun post hp => br_f hn0 (nm_r e8 (md_cu1 hs ht hm hne ⟨hin, br_t hc (br_f p1 (br_f p2 (md_yn hp)))⟩))⟩
  · obtain ⟨rc, hrc⟩ := md_cu (lc := lc) (L := L) (cl := cl) (ly := ly) (rY := rY) (kd := kd) (vl := vl) (ou := ou) (st := st) (aO := aO) (aV := aV) (cY := cY) (oC := oC) hF
    by_cases hb6 : b = 6
    · obtain ⟨w, hw1, hw8, rfl⟩ := h6 hb6
      have p1 : ¬ nI b < 3 := nI_nlt (b := 3) (by omega) (by omega)
      have p2 : (5 : Int32) < nI b := nI_lt (a := 5) (by omega) (by omega)
      have hF' := fd_sym (i := 8 * t + n) (b := b) (w := w) hF hb (fun h => absurd h (by omega)) (fun h => ⟨hw1, hw8⟩) (fun h h' => absurd h' (by omega))
      exact ⟨0, (0, 6, 7, nI mM, nI mS, nI mI, nI (t+1), nI sc, 0, nI lc, qc, cc, na_v ar, na_v (na_u bd (8 * t + n) b), na_v (na_u bv (8 * t + n) w), na_v mo, na_v z, na_v fo, fa, fn, na_v od, po, wn, rt, qu, ba, pa, mO, mA, st, ct, aO, aA, oC, ou), (nI mM, nI mS, nI mI, nI (t+1), nI sc, 0, nI lc, cl, na_v ar, na_v mo, na_v y, na_v fo, na_v nN, fa, na_v (na_u bd (8 * t + n) b), na_v (na_u bv (8 * t + n) w), na_v od, ly, rY, kd, vl, ou, st, aO, aV, cY, oC), zz_in hF' (Or.inl rfl),
        fun post hp => br_f hn0 (nm_r e8 ⟨hin, br_t hc (br_f p1 (br_t p2 (br_t rfl (md_x6 hi hb6 hp))))⟩),
        fun post hp => br_f hn0 (nm_r e8 (hrc _ ⟨hin, br_t hc (br_f p1 (br_t p2 (md_y6 hi hb6 hp)))⟩))⟩
    · have p1 : nI b < 3 := nI_lt (b := 3) (by omega) (by decide)
      have hF' := fd_sym (i := 8 * t + n) (b := b) (w := 0) hF hb (fun h => rfl) (fun h => absurd h hb6) (fun h h' => absurd h (by omega))
      exact ⟨0, (0, 6, 7, nI mM, nI mS, nI mI, nI (t+1), nI sc, 0, nI lc, qc, cc, na_v ar, na_v (na_u bd (8 * t + n) b), na_v (na_u bv (8 * t + n) 0), na_v mo, na_v z, na_v fo, fa, fn, na_v od, po, wn, rt, qu, ba, pa, mO, mA, st, ct, aO, aA, oC, ou), (nI mM, nI mS, nI mI, nI (t+1), nI sc, 0, nI lc, cl, na_v ar, na_v mo, na_v y, na_v fo, na_v nN, fa, na_v (na_u bd (8 * t + n) b), na_v (na_u bv (8 * t + n) 0), na_v od, ly, rY, kd, vl, ou, st, aO, aV, cY, oC), zz_in hF' (Or.inl rfl),
        fun post hp => br_f hn0 (nm_r e8 ⟨hin, br_t hc (br_t p1 (br_t rfl (md_x7 (a := 0) hi hb hb6 hp)))⟩),
        fun post hp => br_f hn0 (nm_r e8 (hrc _ ⟨hin, br_t hc (br_t p1 (md_y7 hi hb hb6 hp))⟩))⟩
theorem md_symbol {k : Nat} (v1 v2 v3 : Int32) (hF : fd_ok mM mS mI mc sc ar bd bv mo z y fo nN od fa fn) (hL : L = 0 ∨ (L = 1 ∧ lk_all mc lc bd bv z od cc cl po wn ba pa mO mA ct aO aA oC ly kd vl aV cY)) :
    wpX_symbol (fun r u' => wpY_symbol (fun r' v' => r' = r ∧ i_Rel k u' v') (nI mM, nI mS, nI mI, nI mc, nI sc, L, nI lc, cl, na_v ar, na_v mo, na_v y, na_v fo, na_v nN, fa, na_v bd, na_v bv, na_v od, ly, rY, kd, vl, ou, st, aO, aV, cY, oC) v1 v2 v3) (0, 6, 7, nI mM, nI mS, nI mI, nI mc, nI sc, L, nI lc, qc, cc, na_v ar, na_v bd, na_v bv, na_v mo, na_v z, na_v fo, fa, fn, na_v od, po, wn, rt, qu, ba, pa, mO, mA, st, ct, aO, aA, oC, ou) v1 v2 v3 := by
  by_cases g0 : v1 < 0
  · exact br_t g0 (br_t g0 ⟨rfl, zz_in hF hL⟩)
  by_cases g7 : v1 ≤ 7
  · have g7' : ¬ (7 : Int32) < v1 := Int32.not_lt.mpr g7
    by_cases h1 : v2 < 1
    · exact br_f g0 (br_t g7 (br_t h1 (br_f g0 (br_f g7' (br_t h1 ⟨rfl, zz_in hF hL⟩)))))
    by_cases h6 : v2 ≤ 6
    · have h0 : ¬ v2 < 0 := fun e => h1 (by
        rw [Int32.lt_iff_toInt_lt] at e ⊢
        have e1 : (0 : Int32).toInt = 0 := by decide
        have e2 : (1 : Int32).toInt = 1 := by decide
        omega)
      obtain ⟨n, hn, rfl⟩ := na_bt (N := 7) g0 g7 (by decide)
      obtain ⟨b, hb, rfl⟩ := na_bt (N := 6) h0 h6 (by decide)
      have hb1 : 1 ≤ b := by
        have := mt (nI_lt (a := b) (b := 1) · (by decide)) h1
        omega
      by_cases e6 : b = 6
      · have e6' : nI b = 6 := by rw [e6]; rfl
        by_cases k1 : v3 < 1
        · exact br_f g0 (br_t g7 (br_f h1 (br_t h6 (br_t e6' (br_t k1 (br_f g0 (br_f g7' (br_f h1 (br_t h6 (br_t e6' (br_t k1 ⟨rfl, zz_in hF hL⟩)))))))))))
        by_cases k8 : v3 ≤ 8
        · have k0 : ¬ v3 < 0 := fun e => k1 (by
            rw [Int32.lt_iff_toInt_lt] at e ⊢
            have e1 : (0 : Int32).toInt = 0 := by decide
            have e2 : (1 : Int32).toInt = 1 := by decide
            omega)
          obtain ⟨w, hw, rfl⟩ := na_bt (N := 8) k0 k8 (by decide)
          have hw1 : 1 ≤ w := by
            have := mt (nI_lt (a := w) (b := 1) · (by decide)) k1
            omega
          obtain ⟨r, u', v', hR, hX, hY⟩ := md_sy (k := k) (x3 := nI w) hn hb1 hb (fun _ => ⟨w, hw1, hw, rfl⟩) hF hL
          exact br_f g0 (br_t g7 (br_f h1 (br_t h6 (br_t e6' (br_f k1 (br_t k8 (hX _ (br_f g0 (br_f g7' (br_f h1 (br_t h6 (br_t e6' (br_f k1 (br_t k8 (hY _ ⟨rfl, hR⟩)))))))))))))))
        · exact br_f g0 (br_t g7 (br_f h1 (br_t h6 (br_t e6' (br_f k1 (br_f k8 (br_f g0 (br_f g7' (br_f h1 (br_t h6 (br_t e6' (br_f k1 (br_f k8 ⟨rfl, zz_in hF hL⟩)))))))))))))
      · have e6' : ¬ nI b = 6 := fun e => e6 (na_im (b := 6) e (by omega) (by decide))
        obtain ⟨r, u', v', hR, hX, hY⟩ := md_sy (k := k) (x3 := v3) hn hb1 hb (fun h => absurd h e6) hF hL
        exact br_f g0 (br_t g7 (br_f h1 (br_t h6 (br_f e6' (hX _ (br_f g0 (br_f g7' (br_f h1 (br_t h6 (br_f e6' (hY _ ⟨rfl, hR⟩)))))))))))
    · exact br_f g0 (br_t g7 (br_f h1 (br_f h6 (br_f g0 (br_f g7' (br_f h1 (br_f h6 ⟨rfl, zz_in hF hL⟩)))))))
  · have g7' : (7 : Int32) < v1 := Int32.not_le.mp g7
    exact br_f g0 (br_f g7 (br_f g0 (br_t g7' ⟨rfl, zz_in hF hL⟩)))
end
theorem i_vc_symbol {k : Nat} {u : SX} {v : SY} (I : i_Rel k u v) (hk : k + 4 ≤ 2051) (v1 : Int32) (v2 : Int32) (v3 : Int32) : wpX_symbol (fun r u' => wpY_symbol (fun r' v' => r' = r ∧ i_Rel (k + 4) u' v') v v1 v2 v3) u v1 v2 v3 :=
  zz_el (P := fun u v => wpX_symbol (fun r u' => wpY_symbol (fun r' v' => r' = r ∧ i_Rel (k + 4) u' v') v v1 v2 v3) u v1 v2 v3) (fun hF hL => md_symbol v1 v2 v3 hF hL) I
/-! the constructors -/
theorem md_cl (v : Int32) (lo hi : Nat) (h : lo ≤ hi) (hh : hi < 2 ^ 31) : ∃ c, lo ≤ c ∧ c ≤ hi ∧ ∀ A : Int32 → Prop, A (nI c) → ((nI lo ≤ v → ((v ≤ nI hi → A v) ∧ (¬ v ≤ nI hi → A (nI hi)))) ∧ (¬ nI lo ≤ v → A (nI lo))) := by
  by_cases h1 : nI lo ≤ v
  · by_cases h2 : v ≤ nI hi
    · have h0 : ¬ v < 0 := fun e => by
        have := Int32.lt_of_le_of_lt h1 e
        exact nI_pos (by omega) this
      obtain ⟨j, hj, rfl⟩ := na_bt h0 h2 hh
      exact ⟨j, (nI_leI (by omega) (by omega)).mp h1, hj, fun A hA => br_t h1 (br_t h2 hA)⟩
    · exact ⟨hi, h, Nat.le_refl _, fun A hA => br_t h1 (br_f h2 hA)⟩
  · exact ⟨lo, Nat.le_refl _, h, fun A hA => br_f h1 hA⟩
theorem md_f0 {a b c : Nat} (ha : 1 ≤ a ∧ a ≤ 8) (hb : 1 ≤ b ∧ b ≤ 8) (hc : 8 ≤ c ∧ c ≤ 128) : fd_ok a b c 0 0 (fun _ => 0) (fun _ => 0) (fun _ => 0) (fun _ => 0) (fun _ => 0) (fun _ => 0) (fun _ => 0) (fun _ => 0) (fun _ => 0) (fun _ => 0) (fun _ => 0) :=
  ⟨by omega, fun _ => (by decide : 0 < 8), fun _ => (by decide : 0 ≤ 6), fun _ _ => rfl, fun _ h => absurd h (show ¬ (0 = 6) by decide), fun _ h => absurd h (show ¬ (3 ≤ 0) by decide), fun _ => (by decide : 0 < 8), fun _ h => absurd h (by omega), fun _ => (by decide : 0 ≤ 8), fun _ _ => rfl, fun _ _ _ => rfl,
    fun _ => Or.inl (by decide : 0 ≤ 5), fun _ _ _ => rfl, fun _ => (by decide : 0 < 8), fun _ h => absurd h (show ¬ (7 ≤ 0) by decide), fun _ _ h => absurd h (Nat.not_lt_zero _), fun _ => (by decide : 0 < 8)⟩
theorem md_r0 {k a b c : Nat} (ha : 1 ≤ a ∧ a ≤ 8) (hb : 1 ≤ b ∧ b ≤ 8) (hc : 8 ≤ c ∧ c ≤ 128) : i_Rel k (0, 6, 7, nI a, nI b, nI c, 0, 0, 0, 0, 0, 0, (fun _ => 0), (fun _ => 0), (fun _ => 0), (fun _ => 0), (fun _ => 0), (fun _ => 0), (fun _ => 0), (fun _ => 0), (fun _ => 0), (fun _ => 0), (fun _ => 0), (fun _ => 0), (fun _ => 0), (fun _ => 0), (fun _ => 0), (fun _ => 0), (fun _ => 0), (fun _ => 0), (fun _ => 0), (fun _ => 0), (fun _ => 0), (fun _ => 0), (fun _ => 0))
    (nI a, nI b, nI c, 0, 0, 0, 0, 0, (fun _ => 0), (fun _ => 0), (fun _ => 0), (fun _ => 0), (fun _ => 0), (fun _ => 0), (fun _ => 0), (fun _ => 0), (fun _ => 0), (fun _ => 0), (fun _ => 0), (fun _ => 0), (fun _ => 0), (fun _ => 0), (fun _ => 0), (fun _ => 0), (fun _ => 0), (fun _ => 0), (fun _ => 0)) :=
  zz_in (mM := a) (mS := b) (mI := c) (mc := 0) (sc := 0) (lc := 0) (ar := fun _ => 0) (bd := fun _ => 0) (bv := fun _ => 0) (mo := fun _ => 0) (z := fun _ => 0) (y := fun _ => 0) (fo := fun _ => 0) (nN := fun _ => 0) (od := fun _ => 0) (fa := fun _ => 0) (fn := fun _ => 0) (md_f0 ha hb hc) (Or.inl rfl)
theorem md_clx {post : Int32 → Prop} {v : Int32} {lo hi c : Nat} (h : ∀ A : Int32 → Prop, A (nI c) → ((nI lo ≤ v → ((v ≤ nI hi → A v) ∧ (¬ v ≤ nI hi → A (nI hi)))) ∧ (¬ nI lo ≤ v → A (nI lo)))) (u : SX) (hp : post (nI c)) : wpX_clamp post u v (nI lo) (nI hi) := h post hp
theorem i_vc0 (k0 : Int32) (k1 : Int32) (k2 : Int32) : wpX_init (fun u => wpY_init (fun v => i_Rel 3 u v) k0 k1 k2) k0 k1 k2 := by
  obtain ⟨a, ha1, ha2, hA⟩ := md_cl k0 1 8 (by decide) (by decide)
  obtain ⟨b, hb1, hb2, hB⟩ := md_cl k1 1 8 (by decide) (by decide)
  obtain ⟨c, hc1, hc2, hC⟩ := md_cl k2 8 128 (by decide) (by decide)
  unfold wpX_init
  refine md_clx (lo := 1) (hi := 8) hA _ (md_clx (lo := 1) (hi := 8) hB _ (md_clx (lo := 8) (hi := 128) hC _ ?_))
  refine hA (fun q => wY_init_176 _ k1 k2 q 0 0 0 0 0 0 0 0 (fun _ => 0) (fun _ => 0) (fun _ => 0) (fun _ => 0) (fun _ => 0) (fun _ => 0) (fun _ => 0) (fun _ => 0) (fun _ => 0) (fun _ => 0) (fun _ => 0) (fun _ => 0) (fun _ => 0) (fun _ => 0) (fun _ => 0) (fun _ => 0) (fun _ => 0) (fun _ => 0) (fun _ => 0)) ?_
  refine hB (fun q => wY_init_201 _ k2 q (nI a) 0 0 0 0 0 0 0 (fun _ => 0) (fun _ => 0) (fun _ => 0) (fun _ => 0) (fun _ => 0) (fun _ => 0) (fun _ => 0) (fun _ => 0) (fun _ => 0) (fun _ => 0) (fun _ => 0) (fun _ => 0) (fun _ => 0) (fun _ => 0) (fun _ => 0) (fun _ => 0) (fun _ => 0) (fun _ => 0) (fun _ => 0)) ?_
  exact hC (fun q => i_Rel 3 _ (nI a, nI b, q, 0, 0, 0, 0, 0, (fun _ => 0), (fun _ => 0), (fun _ => 0), (fun _ => 0), (fun _ => 0), (fun _ => 0), (fun _ => 0), (fun _ => 0), (fun _ => 0), (fun _ => 0), (fun _ => 0), (fun _ => 0), (fun _ => 0), (fun _ => 0), (fun _ => 0), (fun _ => 0), (fun _ => 0), (fun _ => 0), (fun _ => 0))) (md_r0 ⟨ha1, ha2⟩ ⟨hb1, hb2⟩ ⟨hc1, hc2⟩)
end
section
/-! the winners: pure -/
theorem wi_st_none {bd bv od : Nat → Nat} {n : Nat} : ∀ l, (∀ j, j < l → bd (8 * od j + n) ≠ 4) → wi_st bd bv od n l = -1
  | 0, _ => rfl
  | l + 1, h => by
    show (if bd (8 * od l + n) = 4 then nI (bv (8 * od l + n)) else wi_st bd bv od n l) = -1
    rw [if_neg (h l (by omega))]
    exact wi_st_none l (fun j hj => h j (by omega))
theorem wi_st_one {bd bv od : Nat → Nat} {n i : Nat} (hb : bd (8 * od i + n) = 4) : ∀ l, i < l → (∀ j, j < l → bd (8 * od j + n) = 4 → j = i) → wi_st bd bv od n l = nI (bv (8 * od i + n))
  | 0, h, _ => absurd h (by omega)
  | l + 1, h, hu => by
    show (if bd (8 * od l + n) = 4 then nI (bv (8 * od l + n)) else wi_st bd bv od n l) = _
    by_cases e : l = i
    · subst e
      rw [if_pos hb]
    · rw [if_neg (fun q => e (hu l (by omega) q))]
      exact wi_st_one hb l (by omega) (fun j hj => hu j (by omega))
theorem wi_wk_none {bd bv od : Nat → Nat} {n : Nat} : ∀ l, (∀ j, j < l → bd (8 * od j + n) ≠ 5) → wi_wk bd bv od n l = -1
  | 0, _ => rfl
  | l + 1, h => by
    show (if bd (8 * od l + n) = 5 ∧ wi_wk bd bv od n l = -1 then nI (bv (8 * od l + n)) else wi_wk bd bv od n l) = -1
    rw [if_neg (fun q => h l (by omega) q.1)]
    exact wi_wk_none l (fun j hj => h j (by omega))
theorem wi_wk_one {bd bv od : Nat → Nat} {n i : Nat} (hb : bd (8 * od i + n) = 5) (hv : bv (8 * od i + n) < 2 ^ 31) (hn : ∀ j, j < i → bd (8 * od j + n) ≠ 5) : ∀ l, i < l → wi_wk bd bv od n l = nI (bv (8 * od i + n))
  | 0, h => absurd h (by omega)
  | l + 1, h => by
    show (if bd (8 * od l + n) = 5 ∧ wi_wk bd bv od n l = -1 then nI (bv (8 * od l + n)) else wi_wk bd bv od n l) = _
    by_cases e : l = i
    · subst e
      rw [if_pos ⟨hb, wi_wk_none l hn⟩]
    · have ih := wi_wk_one hb hv hn l (by omega)
      rw [ih, if_neg (fun q => na_ne1 hv q.2)]
theorem wi_cm_none {bd bv od : Nat → Nat} {n : Nat} : ∀ l, (∀ j, j < l → bd (8 * od j + n) ≠ 6) → wi_cm bd bv od n l = 0
  | 0, _ => rfl
  | l + 1, h => by
    show (if bd (8 * od l + n) = 6 ∧ ¬ bv (8 * od l + n) ≤ wi_cm bd bv od n l then bv (8 * od l + n) else wi_cm bd bv od n l) = 0
    rw [if_neg (fun q => h l (by omega) q.1)]
    exact wi_cm_none l (fun j hj => h j (by omega))
theorem wi_cm_pos {bd bv od : Nat → Nat} {n i : Nat} (hb : bd (8 * od i + n) = 6) (hv : 1 ≤ bv (8 * od i + n)) : ∀ l, i < l → 1 ≤ wi_cm bd bv od n l
  | 0, h => absurd h (by omega)
  | l + 1, h => by
    show 1 ≤ (if bd (8 * od l + n) = 6 ∧ ¬ bv (8 * od l + n) ≤ wi_cm bd bv od n l then bv (8 * od l + n) else wi_cm bd bv od n l)
    by_cases e : l = i
    · subst e
      split
      · exact hv
      · next q => have := fun w => q ⟨hb, w⟩; omega
    · have ih := wi_cm_pos hb hv l (by omega)
      split <;> omega
theorem wi_cm_le {bd bv od : Nat → Nat} {n : Nat} (hv : ∀ i, bd i = 6 → bv i ≤ 8) : ∀ l, wi_cm bd bv od n l ≤ 8
  | 0 => by show 0 ≤ 8; decide
  | l + 1 => by
    show (if bd (8 * od l + n) = 6 ∧ ¬ bv (8 * od l + n) ≤ wi_cm bd bv od n l then bv (8 * od l + n) else wi_cm bd bv od n l) ≤ 8
    have ih := wi_cm_le (n := n) (od := od) hv l
    split
    · next q => exact hv _ q.1
    · exact ih
section
variable {mM mS mI mc sc lc : Nat} {ar bd bv mo z y fo nN od : Nat → Nat} {L qc cc cl : Int32} {fa fn po wn rt qu ba pa mO mA st ct aO aA oC ou ly rY kd vl aV cY : Nat → Int32}
/-! Y's winner, size, meaning; X's meaning -/
theorem wi_y100 {post : Int32 → Prop} {n : Nat} (hn : n < 8) (hl : lc ≤ 8) (ho : ∀ i, od i < 8) (hb6 : ∀ i, bd i ≤ 6) (hv : ∀ i, bd i = 5 → bv i < 64) (hp : post (wi_wk bd bv od n lc)) :
    ∀ k i f, i + k = lc → k < f → (∀ j, j < i → bd (8 * od j + n) ≠ 5) → wY_winner_100 post (nI n) (nI mM) (nI mS) (nI mI) (nI mc) (nI sc) L (nI lc) cl (na_v ar) (na_v mo) (na_v y) (na_v fo) (na_v nN) fa (na_v bd) (na_v bv) (na_v od) ly rY kd vl ou st aO aV cY oC f (nI i) := by
  intro k
  induction k with
  | zero =>
    intro i f hi hf hj
    obtain ⟨f, rfl⟩ := na_fu hf
    obtain rfl : i = lc := by omega
    exact pk_le i i (fun _ => by rw [wi_wk_none _ hj] at hp; exact hp) (fun h => absurd h (by omega))
  | succ k ih =>
    intro i f hi hf hj
    obtain ⟨f, rfl⟩ := na_fu hf
    have hoi := ho i
    have hb := hb6 (8 * od i + n)
    have hin : vp_in (8 * (na_v od (nI i).toNatClampNeg) + nI n) 64 := na_in (na_ix (by omega)) (by omega) (by decide)
    refine pk_le lc i (fun h => absurd h (by omega)) (fun _ => ⟨vp_in_nI (by omega) (by decide), hin, pk_eq (bd (8 * od i + n)) 5 (fun h => ⟨vp_in_nI (by omega) (by decide), hin, ?_⟩) (fun h => nm_r (nI_1 i) (ih (i + 1) f (by omega) (by omega) ?_)) (na_rb (by omega) (by omega))⟩)
    · rw [wi_wk_one h (by have := hv _ h; omega) hj lc (by omega)] at hp
      exact ek_v (na_rb (by omega) (by omega)) hp
    · intro j hj2
      by_cases e : j = i
      · subst e; exact h
      · exact hj j (by omega)
theorem wi_y55 {post : Int32 → Prop} {n : Nat} (hn : n < 8) (hl : lc ≤ 8) (ho : ∀ i, od i < 8) (hb6 : ∀ i, bd i ≤ 6) (hv : ∀ i, bd i = 5 → bv i < 64) (hv6 : ∀ i, bd i = 6 → 1 ≤ bv i) 
    (hp : post (if wi_cm bd bv od n lc = 0 then wi_wk bd bv od n lc else nI (8 * (8 + n)))) :
    ∀ k i f, i + k = lc → k < f → (∀ j, j < i → bd (8 * od j + n) ≠ 6) → wY_winner_55 post (nI n) (nI mM) (nI mS) (nI mI) (nI mc) (nI sc) L (nI lc) cl (na_v ar) (na_v mo) (na_v y) (na_v fo) (na_v nN) fa (na_v bd) (na_v bv) (na_v od) ly rY kd vl ou st aO aV cY oC f (nI i) := by
  intro k
  induction k with
  | zero =>
    intro i f hi hf hj
    obtain ⟨f, rfl⟩ := na_fu hf
    obtain rfl : i = lc := by omega
    rw [wi_cm_none _ hj, if_pos rfl] at hp
    exact pk_le i i (fun _ => ⟨i + 1, wi_y100 hn hl ho hb6 hv hp i 0 (i + 1) (by omega) (by omega) (fun j hj => absurd hj (by omega))⟩) (fun h => absurd h (by omega))
  | succ k ih =>
    intro i f hi hf hj
    obtain ⟨f, rfl⟩ := na_fu hf
    have hoi := ho i
    have hb := hb6 (8 * od i + n)
    have hin : vp_in (8 * (na_v od (nI i).toNatClampNeg) + nI n) 64 := na_in (na_ix (by omega)) (by omega) (by decide)
    refine pk_le lc i (fun h => absurd h (by omega)) (fun _ => ⟨vp_in_nI (by omega) (by decide), hin, pk_eq (bd (8 * od i + n)) 6 (fun h => ?_) (fun h => nm_r (nI_1 i) (ih (i + 1) f (by omega) (by omega) ?_)) (na_rb (by omega) (by omega))⟩)
    · have := wi_cm_pos (bv := bv) h (hv6 _ h) lc (by omega)
      rw [if_neg (by omega)] at hp
      exact ek_v (by rw [na_a8, na_m8]) hp
    · intro j hj2
      by_cases e : j = i
      · subst e; exact h
      · exact hj j (by omega)
theorem wi_y2 {post : Int32 → Prop} {n : Nat} (hn : n < 8) (hl : lc ≤ 8) (ho : ∀ i, od i < 8) (hb6 : ∀ i, bd i ≤ 6) (hv : ∀ i, bd i = 5 → bv i < 64) (hv4 : ∀ i, bd i = 4 → bv i < 64) (hv6 : ∀ i, bd i = 6 → 1 ≤ bv i) (hd : wi_nd bd od lc)
    (hp : post (wi_wn bd bv od lc n)) :
    ∀ k i f, i + k = lc → k < f → (∀ j, j < i → bd (8 * od j + n) ≠ 4) → wY_winner_2 post (nI n) (nI mM) (nI mS) (nI mI) (nI mc) (nI sc) L (nI lc) cl (na_v ar) (na_v mo) (na_v y) (na_v fo) (na_v nN) fa (na_v bd) (na_v bv) (na_v od) ly rY kd vl ou st aO aV cY oC f (nI i) := by
  intro k
  induction k with
  | zero =>
    intro i f hi hf hj
    obtain ⟨f, rfl⟩ := na_fu hf
    obtain rfl : i = lc := by omega
    unfold wi_wn at hp
    rw [wi_st_none _ hj, if_pos rfl] at hp
    exact pk_le i i (fun _ => ⟨i + 1, wi_y55 hn hl ho hb6 hv hv6 hp i 0 (i + 1) (by omega) (by omega) (fun j hj => absurd hj (by omega))⟩) (fun h => absurd h (by omega))
  | succ k ih =>
    intro i f hi hf hj
    obtain ⟨f, rfl⟩ := na_fu hf
    have hoi := ho i
    have hb := hb6 (8 * od i + n)
    have hin : vp_in (8 * (na_v od (nI i).toNatClampNeg) + nI n) 64 := na_in (na_ix (by omega)) (by omega) (by decide)
    refine pk_le lc i (fun h => absurd h (by omega)) (fun _ => ⟨vp_in_nI (by omega) (by decide), hin, pk_eq (bd (8 * od i + n)) 4 (fun h => ⟨vp_in_nI (by omega) (by decide), hin, ?_⟩) (fun h => nm_r (nI_1 i) (ih (i + 1) f (by omega) (by omega) ?_)) (na_rb (by omega) (by omega))⟩)
    · unfold wi_wn at hp
      have h64 := hv4 _ h
      rw [wi_st_one h lc (by omega) (fun j hj2 hq => hd n hn j i hj2 (by omega) hq h), if_neg (na_ne1 (by omega))] at hp
      exact ek_v (na_rb (by omega) (by omega)) hp
    · intro j hj2
      by_cases e : j = i
      · subst e; exact h
      · exact hj j (by omega)
theorem wi_yw {post : Int32 → Prop} {n : Nat} (hn : n < 8) (hF : fd_ok mM mS mI mc sc ar bd bv mo z y fo nN od fa fn) (hl : lc ≤ 8) (hd : wi_nd bd od lc)
    (hp : post (wi_wn bd bv od lc n)) : wpY_winner post (nI mM, nI mS, nI mI, nI mc, nI sc, L, nI lc, cl, na_v ar, na_v mo, na_v y, na_v fo, na_v nN, fa, na_v bd, na_v bv, na_v od, ly, rY, kd, vl, ou, st, aO, aV, cY, oC) (nI n) := by
  obtain ⟨h1, h2, h3, h4, h5, h6, h7, h8, h9, h10, h11, h12, h13, h14, h15, h16, h17⟩ := hF
  exact ⟨lc + 1, wi_y2 hn hl h17 h3 (fun i h => (h6 i (by omega) (by omega)).1) (fun i h => (h6 i (by omega) (by omega)).1) (fun i h => (h5 i h).1) hd hp lc 0 (lc + 1) (by omega) (by omega) (fun j hj => absurd hj (by omega))⟩
theorem wi_ym {post : Int32 → Prop} {m n : Nat} (hm : m < 8) (hn : n < 8) (hF : fd_ok mM mS mI mc sc ar bd bv mo z y fo nN od fa fn) (hl : lc ≤ 8) (hd : wi_nd bd od lc) (hw : wn n = wi_wn bd bv od lc n)
    (hp : post (wi_me bd bv wn m n)) : wpY_meaning post (nI mM, nI mS, nI mI, nI mc, nI sc, L, nI lc, cl, na_v ar, na_v mo, na_v y, na_v fo, na_v nN, fa, na_v bd, na_v bv, na_v od, ly, rY, kd, vl, ou, st, aO, aV, cY, oC) (nI m) (nI n) := by
  have hb := hF.2.2.1 (8 * m + n)
  refine ⟨na_in (na_8 m n) (by omega) (by decide), pk_eq (bd (8 * m + n)) 3 (fun h => ⟨na_in (na_8 m n) (by omega) (by decide), ?_⟩) (fun h => wi_yw hn hF hl hd ?_) (na_rs (by omega))⟩
  · unfold wi_me at hp
    rw [if_pos h] at hp
    exact ek_v (na_rs (by omega)) hp
  · unfold wi_me at hp
    rw [if_neg h, hw] at hp
    exact hp
theorem wi_xm {post : Int32 → Prop} {m n : Nat} (hm : m < 8) (hn : n < 8) (hb : bd (8 * m + n) ≤ 6) (hp : post (wi_me bd bv wn m n)) : wpX_meaning post (0, 6, 7, nI mM, nI mS, nI mI, nI mc, nI sc, L, nI lc, qc, cc, na_v ar, na_v bd, na_v bv, na_v mo, na_v z, na_v fo, fa, fn, na_v od, po, wn, rt, qu, ba, pa, mO, mA, st, ct, aO, aA, oC, ou) (nI m) (nI n) := by
  refine nm_r (na_8 m n) ⟨vp_in_nI (by omega) (by decide), pk_eq (bd (8 * m + n)) 3 (fun h => ⟨vp_in_nI (by omega) (by decide), ?_⟩) (fun h => ⟨vp_in_nI hn (by decide), ?_⟩) (na_r (by omega))⟩
  · unfold wi_me at hp
    rw [if_pos h] at hp
    exact ek_v (na_r (by omega)) hp
  · unfold wi_me at hp
    rw [if_neg h] at hp
    exact ek_v (by rw [nI_clamp (by omega)]) hp
theorem wi_y17 {post : Int32 → Prop} {n : Nat} (hn : n < 8) (hl : lc ≤ 8) (ho : ∀ i, od i < 8) (hb6 : ∀ i, bd i ≤ 6) (hv : ∀ i, bd i = 6 → bv i ≤ 8) (hp : post (nI (wi_cm bd bv od n lc))) :
    ∀ k i f, i + k = lc → k < f → wY_size_17 post (nI (8 + n)) (nI mM) (nI mS) (nI mI) (nI mc) (nI sc) L (nI lc) cl (na_v ar) (na_v mo) (na_v y) (na_v fo) (na_v nN) fa (na_v bd) (na_v bv) (na_v od) ly rY kd vl ou st aO aV cY oC f (nI (wi_cm bd bv od n i)) (nI i) := by
  intro k
  induction k with
  | zero =>
    intro i f hi hf
    obtain ⟨f, rfl⟩ := na_fu hf
    obtain rfl : i = lc := by omega
    exact pk_le i i (fun _ => hp) (fun h => absurd h (by omega))
  | succ k ih =>
    intro i f hi hf
    obtain ⟨f, rfl⟩ := na_fu hf
    have hoi := ho i
    have hb := hb6 (8 * od i + n)
    have hc := wi_cm_le (bd := bd) (bv := bv) (od := od) (n := n) hv i
    have e4 : 8 * (na_v od (nI i).toNatClampNeg) + nI (8 + n) - 8 = nI (8 * od i + n) := by
      rw [na_ix (by omega)]
      exact (pk_sub (b := 8) (by omega)).trans (congrArg nI (by omega))
    have hin : vp_in (nI (8 * od i + n)) 64 := vp_in_nI (by omega) (by decide)
    refine pk_le lc i (fun h => absurd h (by omega)) (fun _ => ⟨vp_in_nI (by omega) (by decide), nm_r e4 ⟨hin, pk_eq (bd (8 * od i + n)) 6 (fun h => ?_) (fun h => nm_r (nI_1 i) ?_) (na_r (by omega))⟩⟩)
    · have h8 := hv _ h
      refine ⟨hin, pk_le (bv (8 * od i + n)) (wi_cm bd bv od n i) (fun hle => nm_r (nI_1 i) ?_) (fun hgt => ⟨hin, nm_r (na_r (by omega)) (nm_r (nI_1 i) ?_)⟩) (na_r (by omega))⟩
      · have ih2 := ih (i + 1) f (by omega) (by omega)
        unfold wi_cm at ih2
        rw [if_neg (fun q => q.2 hle)] at ih2
        exact ih2
      · have ih2 := ih (i + 1) f (by omega) (by omega)
        unfold wi_cm at ih2
        rw [if_pos ⟨h, by omega⟩] at ih2
        exact ih2
    · have ih2 := ih (i + 1) f (by omega) (by omega)
      unfold wi_cm at ih2
      rw [if_neg (fun q => h q.1)] at ih2
      exact ih2
theorem wi_ys {post : Int32 → Prop} {b : Nat} (hb : b < 16) (hF : fd_ok mM mS mI mc sc ar bd bv mo z y fo nN od fa fn) (hl : lc ≤ 8) (hz : ∀ n, n < 8 → z (8 + n) = wi_cm bd bv od n lc)
    (hp : post (nI (z b))) : wpY_size post (nI mM, nI mS, nI mI, nI mc, nI sc, L, nI lc, cl, na_v ar, na_v mo, na_v y, na_v fo, na_v nN, fa, na_v bd, na_v bv, na_v od, ly, rY, kd, vl, ou, st, aO, aV, cY, oC) (nI b) := by
  obtain ⟨h1, h2, h3, h4, h5, h6, h7, h8, h9, h10, h11, h12, h13, h14, h15, h16, h17⟩ := hF
  refine pk_le 8 b (fun h => ?_) (fun h => ⟨vp_in_nI h (by decide), ?_⟩)
  · obtain ⟨n, rfl⟩ : ∃ n, b = 8 + n := ⟨b - 8, by omega⟩
    rw [hz n (by omega)] at hp
    exact ⟨lc + 1, wi_y17 (by omega) hl h17 h3 (fun i h => (h5 i h).2) hp lc 0 (lc + 1) (by omega) (by omega)⟩
  · rw [← h10 b h] at hp
    exact ek_v (na_r (by omega)) hp
/-! Y's position -/
theorem ld_yn {post : Int32 → Prop} {v : Int32} (hl : lc ≤ 8) (hp : post (-1)) (hn : ∀ i, i < lc → ¬ nI (od i) = v) :
    ∀ k i f, i + k = lc → k < f → wY_position_2 post v (nI mM) (nI mS) (nI mI) (nI mc) (nI sc) L (nI lc) cl (na_v ar) (na_v mo) (na_v y) (na_v fo) (na_v nN) fa (na_v bd) (na_v bv) (na_v od) ly rY kd vl ou st aO aV cY oC f (nI i) := by
  intro k
  induction k with
  | zero =>
    intro i f hi hf
    obtain ⟨f, rfl⟩ := na_fu hf
    obtain rfl : i = lc := by omega
    exact pk_le i i (fun _ => hp) (fun h => absurd h (by omega))
  | succ k ih =>
    intro i f hi hf
    obtain ⟨f, rfl⟩ := na_fu hf
    refine pk_le lc i (fun h => absurd h (by omega)) (fun _ => ⟨vp_in_nI (by omega) (by decide), br_f ?_ (nm_r (nI_1 i) (ih (i + 1) f (by omega) (by omega)))⟩)
    rw [na_r (by omega)]; exact hn i (by omega)
theorem ld_ys {post : Int32 → Prop} {v : Int32} {j : Nat} (hl : lc ≤ 8) (hj : j < lc) (hv : nI (od j) = v) (hp : post (nI j)) (hn : ∀ i, i < j → ¬ nI (od i) = v) :
    ∀ k i f, i + k = j → k < f → wY_position_2 post v (nI mM) (nI mS) (nI mI) (nI mc) (nI sc) L (nI lc) cl (na_v ar) (na_v mo) (na_v y) (na_v fo) (na_v nN) fa (na_v bd) (na_v bv) (na_v od) ly rY kd vl ou st aO aV cY oC f (nI i) := by
  intro k
  induction k with
  | zero =>
    intro i f hi hf
    obtain ⟨f, rfl⟩ := na_fu hf
    obtain rfl : i = j := by omega
    refine pk_le lc i (fun h => absurd h (by omega)) (fun _ => ⟨vp_in_nI (by omega) (by decide), br_t ?_ hp⟩)
    rw [na_r (by omega)]; exact hv
  | succ k ih =>
    intro i f hi hf
    obtain ⟨f, rfl⟩ := na_fu hf
    refine pk_le lc i (fun h => absurd h (by omega)) (fun _ => ⟨vp_in_nI (by omega) (by decide), br_f ?_ (nm_r (nI_1 i) (ih (i + 1) f (by omega) (by omega)))⟩)
    rw [na_r (by omega)]; exact hn i (by omega)
theorem ld_y0 {post : Int32 → Prop} {v : Int32} (hl : lc ≤ 8) (hn : ∀ i, i < lc → ¬ nI (od i) = v) (hp : post (-1)) : wpY_position post (nI mM, nI mS, nI mI, nI mc, nI sc, L, nI lc, cl, na_v ar, na_v mo, na_v y, na_v fo, na_v nN, fa, na_v bd, na_v bv, na_v od, ly, rY, kd, vl, ou, st, aO, aV, cY, oC) v :=
  ⟨lc + 1, ld_yn hl hp hn lc 0 (lc + 1) (by omega) (by omega)⟩
theorem ld_y1 {post : Int32 → Prop} {v : Int32} {j : Nat} (hl : lc ≤ 8) (hj : j < lc) (hv : nI (od j) = v) (hn : ∀ i, i < j → ¬ nI (od i) = v) (hp : post (nI j)) : wpY_position post (nI mM, nI mS, nI mI, nI mc, nI sc, L, nI lc, cl, na_v ar, na_v mo, na_v y, na_v fo, na_v nN, fa, na_v bd, na_v bv, na_v od, ly, rY, kd, vl, ou, st, aO, aV, cY, oC) v :=
  ⟨j + 1, ld_ys hl hj hv hp hn j 0 (j + 1) (by omega) (by omega)⟩
end
end
section
/-! the layout: pure -/
theorem lo_ba {ba : Nat → Int32} {b : Nat} (h : ¬ ba b < 0) : ba b = nI (ba b).toNatClampNeg ∧ (ba b).toNatClampNeg < 2 ^ 31 := by
  obtain ⟨j, hj, e⟩ := nI_of h
  rw [e, nI_clamp hj]
  exact ⟨rfl, hj⟩
theorem lo_pl {z : Nat → Nat} {C : Nat} {ba ly : Nat → Int32} (hC : C < 2 ^ 30) (h : lo_ok z C ba ly) {p : Nat} (hp : lk_pl z ba p) : 1 ≤ lk_a ba p ∧ lk_a ba p < C ∧ ly (lk_a ba p) = nI p ∧
    (p < 64 → lk_a ba p + 1 < C ∧ ((p % 8 + 1 < z (p / 8) ∧ ly (lk_a ba p + 1) = nI (p + 1)) ∨ (p % 8 + 1 = z (p / 8) ∧ ly (lk_a ba p + 1) = -1))) := by
  obtain ⟨h1, h2, h3, h4⟩ := h
  obtain ⟨p1, p2, p3⟩ := hp
  rcases h3 (p / 8) (by omega) with e | ⟨B, e, b1, b2, b3, b4⟩
  · rw [e] at p2; exact absurd na_m1lt p2
  · unfold lk_a
    rw [e, nI_clamp (by omega)]
    have e8 : 8 * (p / 8) + p % 8 = p := by omega
    have q := b3 (p % 8) p3
    rw [e8] at q
    refine ⟨by omega, by omega, q, fun h64 => ?_⟩
    obtain ⟨c1, c2⟩ := b4 (by omega)
    refine ⟨by omega, ?_⟩
    by_cases hlt : p % 8 + 1 < z (p / 8)
    · refine Or.inl ⟨hlt, ?_⟩
      have q2 := b3 (p % 8 + 1) hlt
      rw [show 8 * (p / 8) + (p % 8 + 1) = p + 1 from by omega] at q2
      exact q2
    · have hz : p % 8 + 1 = z (p / 8) := by omega
      refine Or.inr ⟨hz, ?_⟩
      rw [Nat.add_assoc, hz]
      exact c2
theorem lo_inv {z : Nat → Nat} {C : Nat} {ba ly : Nat → Int32} (hz : ∀ i, z i ≤ 8) (hC : C < 2 ^ 30) (h : lo_ok z C ba ly) {a p : Nat} (ha : a < C) (hp : p < 2 ^ 31) (e : ly a = nI p) : lk_pl z ba p ∧ lk_a ba p = a := by
  obtain ⟨h1, h2, h3, h4⟩ := h
  rcases h4 a ha with q | ⟨b, o, B, hb, ho, hB, rfl, hl⟩
  · rw [e] at q; exact absurd q (na_ne1 hp)
  · have hz' := hz b
    have ep : p = 8 * b + o := na_im (e.symm.trans hl) hp (by omega)
    have e1 : p / 8 = b := by omega
    have e2 : p % 8 = o := by omega
    unfold lk_pl lk_a
    rw [e1, e2, hB, nI_clamp (by omega)]
    exact ⟨⟨by omega, nI_pos (by omega), ho⟩, rfl⟩
theorem lo_cs {z : Nat → Nat} {C : Nat} {ba ly : Nat → Int32} (hz : ∀ i, z i ≤ 8) (hC : C < 2 ^ 30) (h : lo_ok z C ba ly) {a : Nat} (ha : a < C) : ly a = -1 ∨ ∃ p, lk_pl z ba p ∧ lk_a ba p = a ∧ ly a = nI p := by
  rcases h.2.2.2 a ha with q | ⟨b, o, B, hb, ho, hB, e, hl⟩
  · exact Or.inl q
  · have hz' := hz b
    have := lo_inv hz hC h ha (p := 8 * b + o) (by omega) hl
    exact Or.inr ⟨8 * b + o, this.1, this.2, hl⟩
theorem lo_inj {z : Nat → Nat} {C : Nat} {ba ly : Nat → Int32} (hC : C < 2 ^ 30) (h : lo_ok z C ba ly) {p q : Nat} (hp : lk_pl z ba p) (hq : lk_pl z ba q) (e : lk_a ba p = lk_a ba q) : p = q := by
  have h1 := (lo_pl hC h hp).2.2.1
  have h2 := (lo_pl hC h hq).2.2.1
  rw [e] at h1
  have p1 := hp.1
  have q1 := hq.1
  exact na_im (h1.symm.trans h2) (by omega) (by omega)
section
variable {mM mS mI mc sc lc : Nat} {ar bd bv mo z y fo nN od : Nat → Nat} {L qc cc cl : Int32} {fa fn po wn rt qu ba pa mO mA st ct aO aA oC ou ly rY kd vl aV cY : Nat → Int32}
/-! X's addressOf, inBlock, asPlace -/
theorem ad_xn {post : Int32 → Prop} {v : Int32} (h : v < 0) (hp : post (-1)) : wpX_addressOf post (0, 6, 7, nI mM, nI mS, nI mI, nI mc, nI sc, L, nI lc, qc, cc, na_v ar, na_v bd, na_v bv, na_v mo, na_v z, na_v fo, fa, fn, na_v od, po, wn, rt, qu, ba, pa, mO, mA, st, ct, aO, aA, oC, ou) v := br_t h hp
theorem ad_x1 {post : Int32 → Prop} {p : Nat} (h : lk_pl z ba p) (hz : ∀ i, z i ≤ 8) (hp : post (nI (lk_a ba p))) : wpX_addressOf post (0, 6, 7, nI mM, nI mS, nI mI, nI mc, nI sc, L, nI lc, qc, cc, na_v ar, na_v bd, na_v bv, na_v mo, na_v z, na_v fo, fa, fn, na_v od, po, wn, rt, qu, ba, pa, mO, mA, st, ct, aO, aA, oC, ou) (nI p) := by
  obtain ⟨p1, p2, p3⟩ := h
  have hz' := hz (p / 8)
  have e := lo_ba p2
  refine br_f (nI_pos (by omega)) (br_t (nI_le (b := 127) (by omega) (by decide)) (nm_r (na_s3 (by omega)) (nm_r (na_n7 (by omega)) ⟨vp_in_nI (by omega) (by decide), br_f ?_ ⟨vp_in_nI (by omega) (by decide), pk_lt (p % 8) (z (p / 8)) (fun _ => ⟨vp_in_nI (by omega) (by decide), ?_⟩) (fun h => absurd p3 (by omega)) rfl (na_r (by omega))⟩⟩)))
  · rw [nI_clamp (by omega)]; exact p2
  · rw [nI_clamp (by omega), e.1, nI_add]; exact hp
theorem ad_x0 {post : Int32 → Prop} {p : Nat} (h : ¬ lk_pl z ba p) (hz : ∀ i, z i ≤ 8) (h31 : p < 2 ^ 31) (hp : post (-1)) : wpX_addressOf post (0, 6, 7, nI mM, nI mS, nI mI, nI mc, nI sc, L, nI lc, qc, cc, na_v ar, na_v bd, na_v bv, na_v mo, na_v z, na_v fo, fa, fn, na_v od, po, wn, rt, qu, ba, pa, mO, mA, st, ct, aO, aA, oC, ou) (nI p) := by
  have hz' := hz (p / 8)
  refine br_f (nI_pos (by omega)) (pk_le p 127 (fun h127 => nm_r (na_s3 (by omega)) (nm_r (na_n7 (by omega)) ⟨vp_in_nI (by omega) (by decide), br_c (fun _ => hp) (fun hb => ⟨vp_in_nI (by omega) (by decide), pk_lt (p % 8) (z (p / 8)) (fun h8 => absurd ⟨by omega, ?_, h8⟩ h) (fun _ => hp) rfl (na_r (by omega))⟩)⟩)) (fun _ => hp))
  rw [nI_clamp (by omega)] at hb; exact hb
theorem ad_in {p : Nat} {a : Int32} (ha : -8 ≤ a.toInt ∧ a.toInt ≤ 8) (hp : p < 2 ^ 31) : ((nI p &&& 7) + a).toInt = ((p % 8 : Nat) : Int) + a.toInt := by
  rw [na_n7 hp, Jvm.Kit.i32_add (by rw [nI_toInt (by omega)]; omega) (by rw [nI_toInt (by omega)]; omega), nI_toInt (by omega)]
theorem ad_bk {post : Int32 → Prop} {p : Nat} {a : Int32} (hp : p < 128) (hz : ∀ i, z i ≤ 8) (ha : -8 ≤ a.toInt ∧ a.toInt ≤ 8)
    (h1 : 0 ≤ ((p % 8 : Nat) : Int) + a.toInt ∧ ((p % 8 : Nat) : Int) + a.toInt < z (p / 8) → post 1) (h0 : ¬ (0 ≤ ((p % 8 : Nat) : Int) + a.toInt ∧ ((p % 8 : Nat) : Int) + a.toInt < z (p / 8)) → post 0) : wpX_inBlock post (0, 6, 7, nI mM, nI mS, nI mI, nI mc, nI sc, L, nI lc, qc, cc, na_v ar, na_v bd, na_v bv, na_v mo, na_v z, na_v fo, fa, fn, na_v od, po, wn, rt, qu, ba, pa, mO, mA, st, ct, aO, aA, oC, ou) (nI p) a := by
  have hz' := hz (p / 8)
  have e := ad_in (p := p) ha (by omega)
  have e0 : (0 : Int32).toInt = 0 := by decide
  have es : nI p >>> ((3 : Int32) &&& 31) = nI (p / 8) := na_s3 (by omega)
  refine nm_e (br_c (fun h => h0 ?_) (fun h => ⟨na_in es (by omega) (by decide), br_c (fun g => h0 ?_) (fun g => h1 ?_)⟩))
  · rw [Int32.lt_iff_toInt_lt, e, e0] at h; omega
  · rw [es, na_r (by omega), Int32.le_iff_toInt_le, e, nI_toInt (by omega)] at g; omega
  · rw [es, na_r (by omega), Int32.le_iff_toInt_le, e, nI_toInt (by omega)] at g
    rw [Int32.lt_iff_toInt_lt, e, e0] at h; omega
theorem ad_a0 {post : Int32 → Prop} {a : Nat} {v : Int32} (h1 : 1 ≤ a) (h2 : a < 128) (e : pa a = v) (hp : post v) : wpX_asPlace post (0, 6, 7, nI mM, nI mS, nI mI, nI mc, nI sc, L, nI lc, qc, cc, na_v ar, na_v bd, na_v bv, na_v mo, na_v z, na_v fo, fa, fn, na_v od, po, wn, rt, qu, ba, pa, mO, mA, st, ct, aO, aA, oC, ou) 0 (nI a) :=
  br_f (by decide) (br_f (nI_nle h1 (by omega)) (br_t (nI_le (b := 127) (by omega) (by decide)) ⟨vp_in_nI h2 (by decide), ek_v (by rw [nI_clamp (by omega)]; exact e) hp⟩))
theorem ad_a1 {post : Int32 → Prop} (hp : post (-1)) : wpX_asPlace post (0, 6, 7, nI mM, nI mS, nI mI, nI mc, nI sc, L, nI lc, qc, cc, na_v ar, na_v bd, na_v bv, na_v mo, na_v z, na_v fo, fa, fn, na_v od, po, wn, rt, qu, ba, pa, mO, mA, st, ct, aO, aA, oC, ou) 0 0 := br_f (by decide) (br_t (by decide) hp)
theorem ad_l {ba : Nat → Int32} {q : Nat} (hq : q < 128) : lk_l ba (nI q) = nI (lk_a ba q) := by
  unfold lk_l
  rw [if_neg (na_ne1 (by omega)), nI_clamp (by omega)]
theorem ad_ap {post : Int32 → Prop} {C m : Nat} {v : Int32} (hm : m < 2) (hC : C ≤ 128) (hL : lo_ok z C ba ly) (hpa : ∀ a, a < 128 → pa a = if a < C then ly a else -1) (hv : lk_ok z ba v) (hp : post v) : wpX_asPlace post (0, 6, 7, nI mM, nI mS, nI mI, nI mc, nI sc, L, nI lc, qc, cc, na_v ar, na_v bd, na_v bv, na_v mo, na_v z, na_v fo, fa, fn, na_v od, po, wn, rt, qu, ba, pa, mO, mA, st, ct, aO, aA, oC, ou) (nI m) (lk_mp ba m v) := by
  have hm2 : m = 0 ∨ m = 1 := by omega
  rcases hm2 with rfl | rfl
  · have e0 : lk_mp ba 0 v = lk_l ba v := if_neg (by decide)
    rw [e0, nI_0]
    rcases hv with rfl | ⟨q, hq, rfl⟩
    · have e : lk_l ba (-1) = 0 := if_pos rfl
      rw [e]
      exact ad_a1 hp
    · obtain ⟨l1, l2, l3, _⟩ := lo_pl (by omega) hL hq
      rw [ad_l hq.1]
      exact ad_a0 l1 (by omega) (by rw [hpa _ (by omega), if_pos l2, l3]) hp
  · exact br_t rfl hp
/-! Y's address -/
theorem ad_yl {post : Int32 → Prop} {C a : Nat} {v : Int32} (hC : C ≤ 128) (ha : a < C) (hv : ly a = v) (hp : post (nI a)) (hn : ∀ i, i < a → ¬ ly i = v) :
    ∀ k i f, i + k = a → k < f → wY_address_15 post v (nI mM) (nI mS) (nI mI) (nI mc) (nI sc) L (nI lc) (nI C) (na_v ar) (na_v mo) (na_v y) (na_v fo) (na_v nN) fa (na_v bd) (na_v bv) (na_v od) ly rY kd vl ou st aO aV cY oC f (nI i) := by
  intro k
  induction k with
  | zero =>
    intro i f hi hf
    obtain ⟨f, rfl⟩ := na_fu hf
    obtain rfl : i = a := by omega
    refine pk_le C i (fun h => absurd h (by omega)) (fun _ => ⟨vp_in_nI (by omega) (by decide), br_t ?_ hp⟩)
    rw [nI_clamp (by omega)]; exact hv
  | succ k ih =>
    intro i f hi hf
    obtain ⟨f, rfl⟩ := na_fu hf
    refine pk_le C i (fun h => absurd h (by omega)) (fun _ => ⟨vp_in_nI (by omega) (by decide), br_f ?_ (nm_r (nI_1 i) (ih (i + 1) f (by omega) (by omega)))⟩)
    rw [nI_clamp (by omega)]; exact hn i (by omega)
theorem ad_yn {post : Int32 → Prop} {C : Nat} {v : Int32} (hC : C ≤ 128) (hp : post (-1)) (hn : ∀ i, i < C → ¬ ly i = v) :
    ∀ k i f, i + k = C → k < f → wY_address_15 post v (nI mM) (nI mS) (nI mI) (nI mc) (nI sc) L (nI lc) (nI C) (na_v ar) (na_v mo) (na_v y) (na_v fo) (na_v nN) fa (na_v bd) (na_v bv) (na_v od) ly rY kd vl ou st aO aV cY oC f (nI i) := by
  intro k
  induction k with
  | zero =>
    intro i f hi hf
    obtain ⟨f, rfl⟩ := na_fu hf
    obtain rfl : i = C := by omega
    exact pk_le i i (fun _ => hp) (fun h => absurd h (by omega))
  | succ k ih =>
    intro i f hi hf
    obtain ⟨f, rfl⟩ := na_fu hf
    refine pk_le C i (fun h => absurd h (by omega)) (fun _ => ⟨vp_in_nI (by omega) (by decide), br_f ?_ (nm_r (nI_1 i) (ih (i + 1) f (by omega) (by omega)))⟩)
    rw [nI_clamp (by omega)]; exact hn i (by omega)
theorem ad_y1 {post : Int32 → Prop} {C p : Nat} (hC : C ≤ 128) (hz : ∀ i, z i ≤ 8) (hL : lo_ok z C ba ly) (h : lk_pl z ba p) (hp : post (nI (lk_a ba p))) : wpY_address post (nI mM, nI mS, nI mI, nI mc, nI sc, 1, nI lc, nI C, na_v ar, na_v mo, na_v y, na_v fo, na_v nN, fa, na_v bd, na_v bv, na_v od, ly, rY, kd, vl, ou, st, aO, aV, cY, oC) (nI p) := by
  have p1 := h.1
  obtain ⟨l1, l2, l3, _⟩ := lo_pl (by omega) hL h
  refine br_f (by decide) (br_t (nI_pos' (by omega)) ⟨lk_a ba p + 1, ad_yl hC l2 l3 hp ?_ (lk_a ba p) 0 (lk_a ba p + 1) (by omega) (by omega)⟩)
  intro i hi e
  have := (lo_inv hz (by omega) hL (a := i) (by omega) (by omega) e).2
  omega
theorem ad_y0 {post : Int32 → Prop} {C p : Nat} (hC : C ≤ 128) (hz : ∀ i, z i ≤ 8) (hL : lo_ok z C ba ly) (h : ¬ lk_pl z ba p) (h31 : p < 2 ^ 31) (hp : post (-1)) : wpY_address post (nI mM, nI mS, nI mI, nI mc, nI sc, 1, nI lc, nI C, na_v ar, na_v mo, na_v y, na_v fo, na_v nN, fa, na_v bd, na_v bv, na_v od, ly, rY, kd, vl, ou, st, aO, aV, cY, oC) (nI p) := by
  refine br_f (by decide) (br_t (nI_pos' (by omega)) ⟨C + 1, ad_yn hC hp ?_ C 0 (C + 1) (by omega) (by omega)⟩)
  intro i hi e
  exact h (lo_inv hz (by omega) hL (a := i) hi h31 e).1
theorem ad_ym {post : Int32 → Prop} {v : Int32} (h : v < 0) (hp : post (-1)) : wpY_address post (nI mM, nI mS, nI mI, nI mc, nI sc, 1, nI lc, cl, na_v ar, na_v mo, na_v y, na_v fo, na_v nN, fa, na_v bd, na_v bv, na_v od, ly, rY, kd, vl, ou, st, aO, aV, cY, oC) v :=
  br_f (by decide) (br_f (Int32.not_le.mpr h) hp)
end
end
section
theorem ge_mach (v : Int32) : (∃ m, m < 2 ∧ v = nI m) ∨ (¬ v = 0 ∧ ¬ v = 1 ∧ (v < 0 ∨ (¬ v < 0 ∧ 1 < v))) := by
  by_cases h : v < 0
  · exact Or.inr ⟨fun e => by subst e; exact absurd h (by decide), fun e => by subst e; exact absurd h (by decide), Or.inl h⟩
  · obtain ⟨j, hj, rfl⟩ := nI_of h
    by_cases h2 : j < 2
    · exact Or.inl ⟨j, h2, rfl⟩
    · exact Or.inr ⟨nI_ne0 (by omega) hj, fun e => by have := na_im (b := 1) e hj (by decide); omega, Or.inr ⟨h, nI_lt (a := 1) (by omega) hj⟩⟩
theorem ge_ext {a b : Int32} (h1 : -2 ^ 31 ≤ a.toInt + b.toInt) (h2 : a.toInt + b.toInt < 2 ^ 31) : (a + b).toInt64 = a.toInt64 + b.toInt64 := by
  apply Int64.toInt_inj.mp
  rw [Int32.toInt_toInt64, Jvm.Kit.i32_add h1 h2, Int64.toInt_add, Int32.toInt_toInt64, Int32.toInt_toInt64]
  exact (Int.bmod_eq_of_le (by omega) (by omega)).symm
def ge_ct (mo : Nat → Nat) (m : Nat) : Nat → Nat
  | 0 => 0
  | i + 1 => if mo i = m then ge_ct mo m i + 1 else ge_ct mo m i
theorem ge_ct_le {mo : Nat → Nat} {m : Nat} : ∀ i, ge_ct mo m i ≤ i
  | 0 => Nat.le_refl 0
  | i + 1 => by
    have := ge_ct_le (mo := mo) (m := m) i
    show (if mo i = m then ge_ct mo m i + 1 else ge_ct mo m i) ≤ i + 1
    split <;> omega
section
variable {mM mS mI mc sc lc : Nat} {ar bd bv mo z y fo nN od : Nat → Nat} {L qc cc cl : Int32} {fa fn po wn rt qu ba pa mO mA st ct aO aA oC ou ly rY kd vl aV cY : Nat → Int32}
/-! machines -/
theorem ge_im {post : Int32 → Prop} {m : Nat} (hm : m < 2) (hp : post 1) : wpX_isMachine post (0, 6, 7, nI mM, nI mS, nI mI, nI mc, nI sc, L, nI lc, qc, cc, na_v ar, na_v bd, na_v bv, na_v mo, na_v z, na_v fo, fa, fn, na_v od, po, wn, rt, qu, ba, pa, mO, mA, st, ct, aO, aA, oC, ou) (nI m) := by
  have h : m = 0 ∨ m = 1 := by omega
  rcases h with rfl | rfl
  · exact br_t rfl hp
  · exact br_f (by decide) (br_t rfl hp)
theorem ge_in {post : Int32 → Prop} {v : Int32} (h0 : ¬ v = 0) (h1 : ¬ v = 1) (hp : post 0) : wpX_isMachine post (0, 6, 7, nI mM, nI mS, nI mI, nI mc, nI sc, L, nI lc, qc, cc, na_v ar, na_v bd, na_v bv, na_v mo, na_v z, na_v fo, fa, fn, na_v od, po, wn, rt, qu, ba, pa, mO, mA, st, ct, aO, aA, oC, ou) v := br_f h0 (br_f h1 hp)
/-! loaded, resolve -/
theorem ge_il (v : Int32) (hmc : mc ≤ 8) (h : ld_ok mc lc od po) :
    (∃ j i, v = nI j ∧ j < 8 ∧ i < lc ∧ od i = j ∧ po j = nI i ∧ (∀ i', i' < i → ¬ nI (od i') = v) ∧ ∀ post : Int32 → Prop, post 1 → wpX_isLoaded post (0, 6, 7, nI mM, nI mS, nI mI, nI mc, nI sc, 1, nI lc, qc, cc, na_v ar, na_v bd, na_v bv, na_v mo, na_v z, na_v fo, fa, fn, na_v od, po, wn, rt, qu, ba, pa, mO, mA, st, ct, aO, aA, oC, ou) v) ∨
    ((∀ i, i < lc → ¬ nI (od i) = v) ∧ ∀ post : Int32 → Prop, post 0 → wpX_isLoaded post (0, 6, 7, nI mM, nI mS, nI mI, nI mc, nI sc, 1, nI lc, qc, cc, na_v ar, na_v bd, na_v bv, na_v mo, na_v z, na_v fo, fa, fn, na_v od, po, wn, rt, qu, ba, pa, mO, mA, st, ct, aO, aA, oC, ou) v) := by
  obtain ⟨h8, hm, hd, hpo⟩ := h
  by_cases h0 : v < 0
  · refine Or.inr ⟨fun i hi e => ?_, fun post hp => br_f (by decide) (br_t h0 hp)⟩
    have := hm i hi
    rw [← e] at h0
    exact nI_pos (by omega) h0
  obtain ⟨j, hj, rfl⟩ := nI_of h0
  by_cases hjm : j < mc
  · have hn : ¬ nI mc ≤ nI j := nI_ge hjm (by omega)
    rcases hpo j (by omega) with ⟨a, b⟩ | ⟨i, a, b, c⟩
    · refine Or.inr ⟨fun i hi e => ?_, fun post hp => br_f (by decide) (br_f h0 (br_f hn ⟨vp_in_nI (by omega) (by decide), br_t ?_ hp⟩))⟩
      · have := hm i hi
        exact a i hi (na_im e (by omega) hj)
      · rw [nI_clamp hj, b]; exact na_m1lt
    · refine Or.inl ⟨j, i, rfl, by omega, a, b, c, fun i' hi' e => ?_, fun post hp => br_f (by decide) (br_f h0 (br_f hn ⟨vp_in_nI (by omega) (by decide), br_f ?_ hp⟩))⟩
      · have h1 := hm i' (by omega)
        have h2 := hd i' i (by omega) a ((na_im e (by omega) hj).trans b.symm)
        omega
      · rw [nI_clamp hj, c]; exact nI_pos (by omega)
  · refine Or.inr ⟨fun i hi e => ?_, fun post hp => br_f (by decide) (br_f h0 (br_t (nI_le (by omega) hj) hp))⟩
    have := hm i hi
    have := na_im e (by omega) hj
    omega
theorem ge_loaded {k : Nat} (v1 : Int32) (hF : fd_ok mM mS mI mc sc ar bd bv mo z y fo nN od fa fn) (hL : L = 0 ∨ (L = 1 ∧ lk_all mc lc bd bv z od cc cl po wn ba pa mO mA ct aO aA oC ly kd vl aV cY)) :
    wpX_loaded (fun r => wpY_loaded (fun r' => r' = r ∧ i_Rel k (0, 6, 7, nI mM, nI mS, nI mI, nI mc, nI sc, L, nI lc, qc, cc, na_v ar, na_v bd, na_v bv, na_v mo, na_v z, na_v fo, fa, fn, na_v od, po, wn, rt, qu, ba, pa, mO, mA, st, ct, aO, aA, oC, ou) (nI mM, nI mS, nI mI, nI mc, nI sc, L, nI lc, cl, na_v ar, na_v mo, na_v y, na_v fo, na_v nN, fa, na_v bd, na_v bv, na_v od, ly, rY, kd, vl, ou, st, aO, aV, cY, oC)) (nI mM, nI mS, nI mI, nI mc, nI sc, L, nI lc, cl, na_v ar, na_v mo, na_v y, na_v fo, na_v nN, fa, na_v bd, na_v bv, na_v od, ly, rY, kd, vl, ou, st, aO, aV, cY, oC) v1) (0, 6, 7, nI mM, nI mS, nI mI, nI mc, nI sc, L, nI lc, qc, cc, na_v ar, na_v bd, na_v bv, na_v mo, na_v z, na_v fo, fa, fn, na_v od, po, wn, rt, qu, ba, pa, mO, mA, st, ct, aO, aA, oC, ou) v1 := by
  unfold wpX_loaded
  have hR : i_Rel k (0, 6, 7, nI mM, nI mS, nI mI, nI mc, nI sc, L, nI lc, qc, cc, na_v ar, na_v bd, na_v bv, na_v mo, na_v z, na_v fo, fa, fn, na_v od, po, wn, rt, qu, ba, pa, mO, mA, st, ct, aO, aA, oC, ou) (nI mM, nI mS, nI mI, nI mc, nI sc, L, nI lc, cl, na_v ar, na_v mo, na_v y, na_v fo, na_v nN, fa, na_v bd, na_v bv, na_v od, ly, rY, kd, vl, ou, st, aO, aV, cY, oC) := zz_in hF hL
  rcases hL with rfl | ⟨rfl, C, ⟨rfl, rfl, hC⟩, hld, hnd, hwn, hzc, hlo, hpa, hmm, hrg⟩
  · exact br_t rfl (br_t rfl (br_t rfl ⟨rfl, hR⟩))
  · have hl8 := hld.1
    rcases ge_il v1 (by have := hF.1; omega) hld with ⟨j, i, rfl, hj, hi, e1, e2, hn, hX⟩ | ⟨hn, hX⟩
    · refine hX _ (br_f (by decide) ⟨vp_in_nI hj (by decide), br_f (by decide) (ld_y1 hl8 hi (by rw [e1]) hn ⟨?_, hR⟩)⟩)
      rw [nI_clamp (by omega), e2]
    · exact hX _ (br_t rfl (br_f (by decide) (ld_y0 hl8 hn ⟨rfl, hR⟩)))
theorem ge_resolve {k : Nat} (v1 v2 : Int32) (hF : fd_ok mM mS mI mc sc ar bd bv mo z y fo nN od fa fn) (hL : L = 0 ∨ (L = 1 ∧ lk_all mc lc bd bv z od cc cl po wn ba pa mO mA ct aO aA oC ly kd vl aV cY)) :
    wpX_resolve (fun r => wpY_resolve (fun r' => r' = r ∧ i_Rel k (0, 6, 7, nI mM, nI mS, nI mI, nI mc, nI sc, L, nI lc, qc, cc, na_v ar, na_v bd, na_v bv, na_v mo, na_v z, na_v fo, fa, fn, na_v od, po, wn, rt, qu, ba, pa, mO, mA, st, ct, aO, aA, oC, ou) (nI mM, nI mS, nI mI, nI mc, nI sc, L, nI lc, cl, na_v ar, na_v mo, na_v y, na_v fo, na_v nN, fa, na_v bd, na_v bv, na_v od, ly, rY, kd, vl, ou, st, aO, aV, cY, oC)) (nI mM, nI mS, nI mI, nI mc, nI sc, L, nI lc, cl, na_v ar, na_v mo, na_v y, na_v fo, na_v nN, fa, na_v bd, na_v bv, na_v od, ly, rY, kd, vl, ou, st, aO, aV, cY, oC) v1 v2) (0, 6, 7, nI mM, nI mS, nI mI, nI mc, nI sc, L, nI lc, qc, cc, na_v ar, na_v bd, na_v bv, na_v mo, na_v z, na_v fo, fa, fn, na_v od, po, wn, rt, qu, ba, pa, mO, mA, st, ct, aO, aA, oC, ou) v1 v2 := by
  unfold wpX_resolve
  have hR : i_Rel k (0, 6, 7, nI mM, nI mS, nI mI, nI mc, nI sc, L, nI lc, qc, cc, na_v ar, na_v bd, na_v bv, na_v mo, na_v z, na_v fo, fa, fn, na_v od, po, wn, rt, qu, ba, pa, mO, mA, st, ct, aO, aA, oC, ou) (nI mM, nI mS, nI mI, nI mc, nI sc, L, nI lc, cl, na_v ar, na_v mo, na_v y, na_v fo, na_v nN, fa, na_v bd, na_v bv, na_v od, ly, rY, kd, vl, ou, st, aO, aV, cY, oC) := zz_in hF hL
  rcases hL with rfl | ⟨rfl, C, ⟨rfl, rfl, hC⟩, hld, hnd, hwn, hzc, hlo, hpa, hmm, hrg⟩
  · exact br_t rfl (br_t rfl (br_t rfl ⟨rfl, hR⟩))
  · have hl8 := hld.1
    rcases ge_il v1 (by have := hF.1; omega) hld with ⟨j, i, rfl, hj, hi, e1, e2, hn, hX⟩ | ⟨hn, hX⟩
    · have hip : ¬ nI i < 0 := nI_pos (by omega)
      by_cases g0 : v2 < 0
      · exact hX _ (br_f (by decide) (br_t g0 (br_f (by decide) (ld_y1 hl8 hi (by rw [e1]) hn (br_f hip (br_t g0 ⟨rfl, hR⟩))))))
      by_cases g7 : v2 ≤ 7
      · obtain ⟨n, hn7, rfl⟩ := na_bt (N := 7) g0 g7 (by decide)
        exact hX _ (br_f (by decide) (br_f g0 (br_t g7 (wi_xm hj (by omega) (hF.2.2.1 _) (br_f (by decide) (ld_y1 hl8 hi (by rw [e1]) hn (br_f hip (br_f g0 (br_t g7 (wi_ym hj (by omega) hF hl8 hnd (hwn n (by omega)) ⟨rfl, hR⟩))))))))))
      · exact hX _ (br_f (by decide) (br_f g0 (br_f g7 (br_f (by decide) (ld_y1 hl8 hi (by rw [e1]) hn (br_f hip (br_f g0 (br_f g7 ⟨rfl, hR⟩))))))))
    · exact hX _ (br_t rfl (br_f (by decide) (ld_y0 hl8 hn (br_t na_m1lt ⟨rfl, hR⟩))))
/-! address -/
theorem ge_address {k : Nat} (v1 : Int32) (hF : fd_ok mM mS mI mc sc ar bd bv mo z y fo nN od fa fn) (hL : L = 0 ∨ (L = 1 ∧ lk_all mc lc bd bv z od cc cl po wn ba pa mO mA ct aO aA oC ly kd vl aV cY)) :
    wpX_address (fun r => wpY_address (fun r' => r' = r ∧ i_Rel k (0, 6, 7, nI mM, nI mS, nI mI, nI mc, nI sc, L, nI lc, qc, cc, na_v ar, na_v bd, na_v bv, na_v mo, na_v z, na_v fo, fa, fn, na_v od, po, wn, rt, qu, ba, pa, mO, mA, st, ct, aO, aA, oC, ou) (nI mM, nI mS, nI mI, nI mc, nI sc, L, nI lc, cl, na_v ar, na_v mo, na_v y, na_v fo, na_v nN, fa, na_v bd, na_v bv, na_v od, ly, rY, kd, vl, ou, st, aO, aV, cY, oC)) (nI mM, nI mS, nI mI, nI mc, nI sc, L, nI lc, cl, na_v ar, na_v mo, na_v y, na_v fo, na_v nN, fa, na_v bd, na_v bv, na_v od, ly, rY, kd, vl, ou, st, aO, aV, cY, oC) v1) (0, 6, 7, nI mM, nI mS, nI mI, nI mc, nI sc, L, nI lc, qc, cc, na_v ar, na_v bd, na_v bv, na_v mo, na_v z, na_v fo, fa, fn, na_v od, po, wn, rt, qu, ba, pa, mO, mA, st, ct, aO, aA, oC, ou) v1 := by
  have hR : i_Rel k (0, 6, 7, nI mM, nI mS, nI mI, nI mc, nI sc, L, nI lc, qc, cc, na_v ar, na_v bd, na_v bv, na_v mo, na_v z, na_v fo, fa, fn, na_v od, po, wn, rt, qu, ba, pa, mO, mA, st, ct, aO, aA, oC, ou) (nI mM, nI mS, nI mI, nI mc, nI sc, L, nI lc, cl, na_v ar, na_v mo, na_v y, na_v fo, na_v nN, fa, na_v bd, na_v bv, na_v od, ly, rY, kd, vl, ou, st, aO, aV, cY, oC) := zz_in hF hL
  have hz : ∀ i, z i ≤ 8 := hF.2.2.2.2.2.2.2.2.1
  rcases hL with rfl | ⟨rfl, C, ⟨rfl, rfl, hC⟩, hld, hnd, hwn, hzc, hlo, hpa, hmm, hrg⟩
  · exact br_t rfl (br_t rfl ⟨rfl, hR⟩)
  · by_cases h0 : v1 < 0
    · exact br_f (by decide) (ad_xn h0 (ad_ym h0 ⟨rfl, hR⟩))
    · obtain ⟨p, hp, rfl⟩ := nI_of h0
      by_cases h : lk_pl z ba p
      · exact br_f (by decide) (ad_x1 h hz (ad_y1 hC hz hlo h ⟨rfl, hR⟩))
      · exact br_f (by decide) (ad_x0 h hz hp (ad_y0 hC hz hlo h hp ⟨rfl, hR⟩))
/-! image -/
theorem ge_image {k : Nat} (v1 : Int32) (hF : fd_ok mM mS mI mc sc ar bd bv mo z y fo nN od fa fn) (hL : L = 0 ∨ (L = 1 ∧ lk_all mc lc bd bv z od cc cl po wn ba pa mO mA ct aO aA oC ly kd vl aV cY)) :
    wpX_image (fun r => wpY_image (fun r' => r' = r ∧ i_Rel k (0, 6, 7, nI mM, nI mS, nI mI, nI mc, nI sc, L, nI lc, qc, cc, na_v ar, na_v bd, na_v bv, na_v mo, na_v z, na_v fo, fa, fn, na_v od, po, wn, rt, qu, ba, pa, mO, mA, st, ct, aO, aA, oC, ou) (nI mM, nI mS, nI mI, nI mc, nI sc, L, nI lc, cl, na_v ar, na_v mo, na_v y, na_v fo, na_v nN, fa, na_v bd, na_v bv, na_v od, ly, rY, kd, vl, ou, st, aO, aV, cY, oC)) (nI mM, nI mS, nI mI, nI mc, nI sc, L, nI lc, cl, na_v ar, na_v mo, na_v y, na_v fo, na_v nN, fa, na_v bd, na_v bv, na_v od, ly, rY, kd, vl, ou, st, aO, aV, cY, oC) v1) (0, 6, 7, nI mM, nI mS, nI mI, nI mc, nI sc, L, nI lc, qc, cc, na_v ar, na_v bd, na_v bv, na_v mo, na_v z, na_v fo, fa, fn, na_v od, po, wn, rt, qu, ba, pa, mO, mA, st, ct, aO, aA, oC, ou) v1 := by
  have hR : i_Rel k (0, 6, 7, nI mM, nI mS, nI mI, nI mc, nI sc, L, nI lc, qc, cc, na_v ar, na_v bd, na_v bv, na_v mo, na_v z, na_v fo, fa, fn, na_v od, po, wn, rt, qu, ba, pa, mO, mA, st, ct, aO, aA, oC, ou) (nI mM, nI mS, nI mI, nI mc, nI sc, L, nI lc, cl, na_v ar, na_v mo, na_v y, na_v fo, na_v nN, fa, na_v bd, na_v bv, na_v od, ly, rY, kd, vl, ou, st, aO, aV, cY, oC) := zz_in hF hL
  have hz : ∀ i, z i ≤ 8 := hF.2.2.2.2.2.2.2.2.1
  rcases hL with rfl | ⟨rfl, C, ⟨rfl, rfl, hC⟩, hld, hnd, hwn, hzc, hlo, hpa, hmm, hrg⟩
  · exact br_t rfl (br_t rfl ⟨rfl, hR⟩)
  by_cases h0 : v1 < 0
  · exact br_f (by decide) (br_t h0 (br_f (by decide) (br_t h0 ⟨rfl, hR⟩)))
  obtain ⟨a, ha, rfl⟩ := nI_of h0
  by_cases haC : a < C
  · have hlt : nI a < nI C := nI_lt haC (by omega)
    have hx : vp_in (nI a) 256 := vp_in_nI (by omega) (by decide)
    refine br_f (by decide) (br_f h0 (br_t hlt ⟨hx, hx, ?_⟩))
    rw [nI_clamp ha]
    rcases lo_cs hz (by omega) hlo haC with e | ⟨p, hpl, epa, e⟩
    · obtain ⟨m1, m2⟩ := hmm.1 a (by omega) (Or.inr e)
      refine br_f (by decide) (br_f h0 (br_t hlt ⟨vp_in_nI (by omega) (by decide), nm_r (e' := -1) (by rw [nI_clamp ha, e]) (br_t rfl ⟨?_, hR⟩)⟩))
      rw [m1, m2]; decide
    · have p1 := hpl.1
      obtain ⟨c, e1, e2, hop, _, h7, h7'⟩ := hmm.2 p hpl 0 (by decide)
      have ei : lk_ix ba 0 p = a := epa
      rw [ei] at e2 h7 h7'
      rw [Nat.mul_zero, Nat.zero_add] at e1 h7 h7'
      have hc : c ≤ 22 := by unfold fd_op at hop; omega
      have hin : vp_in (nI p) 256 := vp_in_nI (by omega) (by decide)
      have ek : kd (nI p).toNatClampNeg = nI c := by rw [nI_clamp (by omega), e1]
      have hne : ¬ nI p = -1 := na_ne1 (by omega)
      refine br_f (by decide) (br_f h0 (br_t hlt ⟨vp_in_nI (by omega) (by decide), nm_r (e' := nI p) (by rw [nI_clamp ha, e]) (br_f hne ⟨hin, nm_r (e' := vl p) (by rw [nI_clamp (by omega)]) ⟨hin, pk_lt c 7 (fun hc7 => ?_) (fun hc7 => ⟨hin, ?_⟩) ek⟩⟩)⟩))
      · refine ⟨hin, pk_lt c 16 (fun _ => ⟨hin, ?_, hR⟩) (fun h => absurd h (by omega)) ek⟩
        rw [ek, e2, h7 hc7]
      · obtain ⟨hok, ea⟩ := h7' hc7
        rw [nI_clamp (by omega)]
        rcases hok with ev | ⟨q, hq, ev⟩
        · rw [ev]
          have el : lk_mp ba 0 (vl p) = 0 := by rw [ev]; rfl
          refine ad_ym na_m1lt (br_f na_m1le ⟨hin, pk_lt c 16 (fun h16 => ⟨hin, ?_, hR⟩) (fun h16 => nm_e ⟨hin, ?_, hR⟩) ek⟩)
          · rw [ek, e2, ea, if_neg (by omega), el]
          · rw [ek, e2, ea, if_pos ⟨rfl, h16⟩, el, epa]
        · have q1 := hq.1
          rw [ev]
          have el : lk_mp ba 0 (vl p) = nI (lk_a ba q) := by
            rw [ev]
            show (if nI q = -1 then 0 else nI (lk_a ba (nI q).toNatClampNeg)) = _
            rw [if_neg (na_ne1 (by omega)), nI_clamp (by omega)]
          have l2 := (lo_pl (by omega) hlo hq).2.1
          refine ad_y1 hC hz hlo hq (br_t (nI_pos' (by omega)) ⟨hin, pk_lt c 16 (fun h16 => ⟨hin, ?_, hR⟩) (fun h16 => nm_e ⟨hin, ?_, hR⟩) ek⟩)
          · rw [ek, e2, ea, if_neg (by omega), el]
          · rw [ek, e2, ea, if_pos ⟨rfl, h16⟩, el, epa]
  · have hn : ¬ nI a < nI C := nI_nlt (by omega) ha
    exact br_f (by decide) (br_f h0 (br_f hn (br_f (by decide) (br_f h0 (br_f hn ⟨rfl, hR⟩)))))
end
end
section
section
variable {mM mS mI mc sc lc : Nat} {ar bd bv mo z y fo nN od : Nat → Nat} {L qc cc cl : Int32} {fa fn po wn rt qu ba pa mO mA st ct aO aA oC ou ly rY kd vl aV cY : Nat → Int32}
theorem ge_acc {k : Nat} (v1 : Int32) (hF : fd_ok mM mS mI mc sc ar bd bv mo z y fo nN od fa fn) (hL : L = 0 ∨ (L = 1 ∧ lk_all mc lc bd bv z od cc cl po wn ba pa mO mA ct aO aA oC ly kd vl aV cY)) :
    wpX_acc (fun r => wpY_acc (fun r' => r' = r ∧ i_Rel k (0, 6, 7, nI mM, nI mS, nI mI, nI mc, nI sc, L, nI lc, qc, cc, na_v ar, na_v bd, na_v bv, na_v mo, na_v z, na_v fo, fa, fn, na_v od, po, wn, rt, qu, ba, pa, mO, mA, st, ct, aO, aA, oC, ou) (nI mM, nI mS, nI mI, nI mc, nI sc, L, nI lc, cl, na_v ar, na_v mo, na_v y, na_v fo, na_v nN, fa, na_v bd, na_v bv, na_v od, ly, rY, kd, vl, ou, st, aO, aV, cY, oC)) (nI mM, nI mS, nI mI, nI mc, nI sc, L, nI lc, cl, na_v ar, na_v mo, na_v y, na_v fo, na_v nN, fa, na_v bd, na_v bv, na_v od, ly, rY, kd, vl, ou, st, aO, aV, cY, oC) v1) (0, 6, 7, nI mM, nI mS, nI mI, nI mc, nI sc, L, nI lc, qc, cc, na_v ar, na_v bd, na_v bv, na_v mo, na_v z, na_v fo, fa, fn, na_v od, po, wn, rt, qu, ba, pa, mO, mA, st, ct, aO, aA, oC, ou) v1 := by
  unfold wpX_acc
  have hR : i_Rel k (0, 6, 7, nI mM, nI mS, nI mI, nI mc, nI sc, L, nI lc, qc, cc, na_v ar, na_v bd, na_v bv, na_v mo, na_v z, na_v fo, fa, fn, na_v od, po, wn, rt, qu, ba, pa, mO, mA, st, ct, aO, aA, oC, ou) (nI mM, nI mS, nI mI, nI mc, nI sc, L, nI lc, cl, na_v ar, na_v mo, na_v y, na_v fo, na_v nN, fa, na_v bd, na_v bv, na_v od, ly, rY, kd, vl, ou, st, aO, aV, cY, oC) := zz_in hF hL
  rcases ge_mach v1 with ⟨m, hm, rfl⟩ | ⟨g0, g1, g2 | ⟨g2, g3⟩⟩
  · have q0 : ¬ nI m < 0 := nI_pos (by omega)
    have q1 : ¬ (1 : Int32) < nI m := nI_nlt (a := 1) (by omega) (by decide)
    have hin : vp_in (nI m) 2 := vp_in_nI hm (by decide)
    rcases hL with rfl | ⟨rfl, C, ⟨rfl, rfl, hC⟩, hld, hnd, hwn, hzc, hlo, hpa, hmm, hrg⟩
    · exact ge_im hm (br_f (by decide) (br_t rfl (br_f q0 (br_f q1 (br_t rfl ⟨rfl, hR⟩)))))
    · refine ge_im hm (br_f (by decide) (br_f (by decide) ⟨hin, hin, ?_⟩))
      rw [nI_clamp (by omega)]
      obtain ⟨_, ha, _⟩ := hrg m hm
      rcases ha with ⟨e1, e2⟩ | ⟨e1, e2, e3⟩
      · refine br_t e1 (br_f q0 (br_f q1 (br_f (by decide) ⟨hin, br_f ?_ ⟨hin, ?_, hR⟩⟩)))
        · rw [nI_clamp (by omega), e1]; decide
        · rw [nI_clamp (by omega), e2]
      · refine br_f (by rw [e1]; decide) (br_t e1 ?_)
        rw [e3]
        refine ad_ap hm hC hlo hpa e2 (br_f q0 (br_f q1 (br_f (by decide) ⟨hin, br_t ?_ ⟨hin, ?_, hR⟩⟩)))
        · rw [nI_clamp (by omega), e1]
        · rw [nI_clamp (by omega)]
  · exact ge_in g0 g1 (br_t rfl (br_t g2 ⟨rfl, hR⟩))
  · exact ge_in g0 g1 (br_t rfl (br_f g2 (br_t g3 ⟨rfl, hR⟩)))
theorem ge_where {k : Nat} (v1 : Int32) (hF : fd_ok mM mS mI mc sc ar bd bv mo z y fo nN od fa fn) (hL : L = 0 ∨ (L = 1 ∧ lk_all mc lc bd bv z od cc cl po wn ba pa mO mA ct aO aA oC ly kd vl aV cY)) :
    wpX_where (fun r => wpY_where (fun r' => r' = r ∧ i_Rel k (0, 6, 7, nI mM, nI mS, nI mI, nI mc, nI sc, L, nI lc, qc, cc, na_v ar, na_v bd, na_v bv, na_v mo, na_v z, na_v fo, fa, fn, na_v od, po, wn, rt, qu, ba, pa, mO, mA, st, ct, aO, aA, oC, ou) (nI mM, nI mS, nI mI, nI mc, nI sc, L, nI lc, cl, na_v ar, na_v mo, na_v y, na_v fo, na_v nN, fa, na_v bd, na_v bv, na_v od, ly, rY, kd, vl, ou, st, aO, aV, cY, oC)) (nI mM, nI mS, nI mI, nI mc, nI sc, L, nI lc, cl, na_v ar, na_v mo, na_v y, na_v fo, na_v nN, fa, na_v bd, na_v bv, na_v od, ly, rY, kd, vl, ou, st, aO, aV, cY, oC) v1) (0, 6, 7, nI mM, nI mS, nI mI, nI mc, nI sc, L, nI lc, qc, cc, na_v ar, na_v bd, na_v bv, na_v mo, na_v z, na_v fo, fa, fn, na_v od, po, wn, rt, qu, ba, pa, mO, mA, st, ct, aO, aA, oC, ou) v1 := by
  unfold wpX_where
  have hR : i_Rel k (0, 6, 7, nI mM, nI mS, nI mI, nI mc, nI sc, L, nI lc, qc, cc, na_v ar, na_v bd, na_v bv, na_v mo, na_v z, na_v fo, fa, fn, na_v od, po, wn, rt, qu, ba, pa, mO, mA, st, ct, aO, aA, oC, ou) (nI mM, nI mS, nI mI, nI mc, nI sc, L, nI lc, cl, na_v ar, na_v mo, na_v y, na_v fo, na_v nN, fa, na_v bd, na_v bv, na_v od, ly, rY, kd, vl, ou, st, aO, aV, cY, oC) := zz_in hF hL
  rcases ge_mach v1 with ⟨m, hm, rfl⟩ | ⟨g0, g1, g2 | ⟨g2, g3⟩⟩
  · have q0 : ¬ nI m < 0 := nI_pos (by omega)
    have q1 : ¬ (1 : Int32) < nI m := nI_nlt (a := 1) (by omega) (by decide)
    have hin : vp_in (nI m) 2 := vp_in_nI hm (by decide)
    rcases hL with rfl | ⟨rfl, C, ⟨rfl, rfl, hC⟩, hld, hnd, hwn, hzc, hlo, hpa, hmm, hrg⟩
    · exact ge_im hm (br_f (by decide) (br_t rfl (br_f q0 (br_f q1 (br_t rfl ⟨rfl, hR⟩)))))
    · refine ge_im hm (br_f (by decide) (br_f (by decide) ⟨hin, ?_⟩))
      obtain ⟨⟨e1, e2⟩, _, _⟩ := hrg m hm
      rw [nI_clamp (by omega), e2]
      refine ad_ap hm hC hlo hpa e1 (br_f q0 (br_f q1 (br_f (by decide) ⟨hin, ?_, hR⟩)))
      rw [nI_clamp (by omega)]
  · exact ge_in g0 g1 (br_t rfl (br_t g2 ⟨rfl, hR⟩))
  · exact ge_in g0 g1 (br_t rfl (br_f g2 (br_t g3 ⟨rfl, hR⟩)))
theorem ge_output {k : Nat} (v1 v2 : Int32) (hF : fd_ok mM mS mI mc sc ar bd bv mo z y fo nN od fa fn) (hL : L = 0 ∨ (L = 1 ∧ lk_all mc lc bd bv z od cc cl po wn ba pa mO mA ct aO aA oC ly kd vl aV cY)) :
    wpX_output (fun r => wpY_output (fun r' => r' = r ∧ i_Rel k (0, 6, 7, nI mM, nI mS, nI mI, nI mc, nI sc, L, nI lc, qc, cc, na_v ar, na_v bd, na_v bv, na_v mo, na_v z, na_v fo, fa, fn, na_v od, po, wn, rt, qu, ba, pa, mO, mA, st, ct, aO, aA, oC, ou) (nI mM, nI mS, nI mI, nI mc, nI sc, L, nI lc, cl, na_v ar, na_v mo, na_v y, na_v fo, na_v nN, fa, na_v bd, na_v bv, na_v od, ly, rY, kd, vl, ou, st, aO, aV, cY, oC)) (nI mM, nI mS, nI mI, nI mc, nI sc, L, nI lc, cl, na_v ar, na_v mo, na_v y, na_v fo, na_v nN, fa, na_v bd, na_v bv, na_v od, ly, rY, kd, vl, ou, st, aO, aV, cY, oC) v1 v2) (0, 6, 7, nI mM, nI mS, nI mI, nI mc, nI sc, L, nI lc, qc, cc, na_v ar, na_v bd, na_v bv, na_v mo, na_v z, na_v fo, fa, fn, na_v od, po, wn, rt, qu, ba, pa, mO, mA, st, ct, aO, aA, oC, ou) v1 v2 := by
  unfold wpX_output
  have hR : i_Rel k (0, 6, 7, nI mM, nI mS, nI mI, nI mc, nI sc, L, nI lc, qc, cc, na_v ar, na_v bd, na_v bv, na_v mo, na_v z, na_v fo, fa, fn, na_v od, po, wn, rt, qu, ba, pa, mO, mA, st, ct, aO, aA, oC, ou) (nI mM, nI mS, nI mI, nI mc, nI sc, L, nI lc, cl, na_v ar, na_v mo, na_v y, na_v fo, na_v nN, fa, na_v bd, na_v bv, na_v od, ly, rY, kd, vl, ou, st, aO, aV, cY, oC) := zz_in hF hL
  rcases ge_mach v1 with ⟨m, hm, rfl⟩ | ⟨g0, g1, g2 | ⟨g2, g3⟩⟩
  · have q0 : ¬ nI m < 0 := nI_pos (by omega)
    have q1 : ¬ (1 : Int32) < nI m := nI_nlt (a := 1) (by omega) (by decide)
    have hin : vp_in (nI m) 2 := vp_in_nI hm (by decide)
    rcases hL with rfl | ⟨rfl, C, ⟨rfl, rfl, hC⟩, hld, hnd, hwn, hzc, hlo, hpa, hmm, hrg⟩
    · exact ge_im hm (br_f (by decide) (br_t rfl (br_f q0 (br_f q1 (br_t rfl ⟨rfl, hR⟩)))))
    · by_cases h0 : v2 < 0
      · exact ge_im hm (br_f (by decide) (br_f (by decide) (br_t h0 (br_f q0 (br_f q1 (br_f (by decide) (br_t h0 ⟨rfl, hR⟩)))))))
      obtain ⟨j, hj, rfl⟩ := nI_of h0
      obtain ⟨_, _, c, hc, ec⟩ := hrg m hm
      have eo : oC (nI m).toNatClampNeg = nI c := by rw [nI_clamp (by omega), ec]
      by_cases hjc : j < c
      · have hlt : nI j < oC (nI m).toNatClampNeg := by rw [eo]; exact nI_lt hjc (by omega)
        have hi2 : vp_in (16 * nI m + nI j) 32 := na_in (na_16 m j) (by omega) (by decide)
        exact ge_im hm (br_f (by decide) (br_f (by decide) (br_f h0 ⟨hin, br_t hlt ⟨hi2, br_f q0 (br_f q1 (br_f (by decide) (br_f h0 ⟨hin, br_t hlt ⟨hi2, rfl, hR⟩⟩)))⟩⟩)))
      · have hlt : ¬ nI j < oC (nI m).toNatClampNeg := by rw [eo]; exact nI_nlt (by omega) hj
        exact ge_im hm (br_f (by decide) (br_f (by decide) (br_f h0 ⟨hin, br_f hlt (br_f q0 (br_f q1 (br_f (by decide) (br_f h0 ⟨hin, br_f hlt ⟨rfl, hR⟩⟩))))⟩)))
  · exact ge_in g0 g1 (br_t rfl (br_t g2 ⟨rfl, hR⟩))
  · exact ge_in g0 g1 (br_t rfl (br_f g2 (br_t g3 ⟨rfl, hR⟩)))
/-! peek -/
theorem ge_source {k : Nat} (v2 : Int32) (hF : fd_ok mM mS mI mc sc ar bd bv mo z y fo nN od fa fn) (hR : i_Rel k (0, 6, 7, nI mM, nI mS, nI mI, nI mc, nI sc, L, nI lc, qc, cc, na_v ar, na_v bd, na_v bv, na_v mo, na_v z, na_v fo, fa, fn, na_v od, po, wn, rt, qu, ba, pa, mO, mA, st, ct, aO, aA, oC, ou) (nI mM, nI mS, nI mI, nI mc, nI sc, L, nI lc, cl, na_v ar, na_v mo, na_v y, na_v fo, na_v nN, fa, na_v bd, na_v bv, na_v od, ly, rY, kd, vl, ou, st, aO, aV, cY, oC)) :
    wpX_peek (fun r => wpY_peek (fun r' => r' = r ∧ i_Rel k (0, 6, 7, nI mM, nI mS, nI mI, nI mc, nI sc, L, nI lc, qc, cc, na_v ar, na_v bd, na_v bv, na_v mo, na_v z, na_v fo, fa, fn, na_v od, po, wn, rt, qu, ba, pa, mO, mA, st, ct, aO, aA, oC, ou) (nI mM, nI mS, nI mI, nI mc, nI sc, L, nI lc, cl, na_v ar, na_v mo, na_v y, na_v fo, na_v nN, fa, na_v bd, na_v bv, na_v od, ly, rY, kd, vl, ou, st, aO, aV, cY, oC)) (nI mM, nI mS, nI mI, nI mc, nI sc, L, nI lc, cl, na_v ar, na_v mo, na_v y, na_v fo, na_v nN, fa, na_v bd, na_v bv, na_v od, ly, rY, kd, vl, ou, st, aO, aV, cY, oC) 2 v2) (0, 6, 7, nI mM, nI mS, nI mI, nI mc, nI sc, L, nI lc, qc, cc, na_v ar, na_v bd, na_v bv, na_v mo, na_v z, na_v fo, fa, fn, na_v od, po, wn, rt, qu, ba, pa, mO, mA, st, ct, aO, aA, oC, ou) 2 v2 := by
  obtain ⟨h1, h2, h3, h4, h5, h6, h7, h8, h9, h10, h11, h12, h13, h14, h15, h16, h17⟩ := hF
  by_cases h0 : v2 < 0
  · exact br_t rfl (br_t h0 (br_t rfl (br_t h0 ⟨rfl, hR⟩)))
  obtain ⟨p, hp, rfl⟩ := nI_of h0
  by_cases h63 : 63 < p
  · have q : (63 : Int32) < nI p := nI_lt (a := 63) h63 hp
    exact br_t rfl (br_f h0 (br_t q (br_t rfl (br_f h0 (br_t q ⟨rfl, hR⟩)))))
  have q : ¬ (63 : Int32) < nI p := nI_nlt (a := 63) (by omega) (by decide)
  have hz8 := h9 (p / 8)
  have hy8 := h10 (p / 8) (by omega)
  have e8 : nI p / 8 = nI (p / 8) := na_d8 hp
  have er : nI p - nI p / 8 * 8 = nI (p % 8) := na_r8 hp
  have hin8 : vp_in (nI p / 8) 8 := na_in e8 (by omega) (by decide)
  have ey : na_v y (nI p / 8).toNatClampNeg = nI (z (p / 8)) := by rw [e8, na_r (by omega), hy8]
  have hin : vp_in (nI p) 64 := vp_in_nI (by omega) (by decide)
  have e0 : (0 : Int32).toInt = 0 := by decide
  refine br_t rfl (br_f h0 (br_f q (ad_bk (by omega) h9 (by rw [e0]; decide) (fun hh => br_f (by decide) ?_) (fun hh => br_t rfl ?_))))
  · rw [e0] at hh
    have hlt : p % 8 < z (p / 8) := by omega
    have efn := h16 p (by omega) hlt
    have hlt' : nI p - nI p / 8 * 8 < na_v y (nI p / 8).toNatClampNeg := by rw [er, ey]; exact nI_lt hlt (by omega)
    have hop := h12 p
    unfold fd_op at hop
    have eo : na_v fo (nI p).toNatClampNeg = nI (fo p) := na_r hp
    by_cases ho : fo p < 7
    · rw [if_pos ho] at efn
      refine ⟨hin, nm_e ⟨hin, br_f ?_ ⟨hin, ?_⟩⟩⟩
      · rw [nI_clamp hp, efn]; exact na_m1le
      · refine br_t rfl (br_f h0 (br_f q ⟨by decide, by decide, hin8, br_t hlt' ⟨hin, hin, br_f ?_ ⟨hin, rfl, hR⟩⟩⟩))
        rw [eo]; exact nI_ge (b := 7) ho (by decide)
    · rw [if_neg ho] at efn
      have hn8 := h14 p
      have hfa := h15 p (by omega)
      refine ⟨hin, nm_e ⟨hin, br_t ?_ ⟨hin, hin, ?_⟩⟩⟩
      · rw [nI_clamp hp, efn]; exact nI_pos' (by omega)
      · refine br_t rfl (br_f h0 (br_f q ⟨by decide, by decide, hin8, br_t hlt' ⟨hin, hin, br_t ?_ ⟨hin, hin, ?_, hR⟩⟩⟩))
        · rw [eo]; exact nI_le (a := 7) (by omega) (by omega)
        · rw [nI_clamp hp, efn, show na_v nN p = nI (nN p) from rfl, na_m16]
          have t16 : (nI (16 * nN p)).toInt = ((16 * nN p : Nat) : Int) := nI_toInt (by omega)
          have t7 : (7 : Int32).toInt = 7 := by decide
          have ta : (nI (16 * nN p) + fa p).toInt = (nI (16 * nN p)).toInt + (fa p).toInt := Jvm.Kit.i32_add (by omega) (by omega)
          rw [ge_ext (by omega) (by omega), ge_ext (by omega) (by omega), ← Int64.add_assoc, ← Int64.add_assoc]
          rfl
  · rw [e0] at hh
    have hlt' : ¬ nI p - nI p / 8 * 8 < na_v y (nI p / 8).toNatClampNeg := by rw [er, ey]; exact nI_nlt (by omega) (by omega)
    exact br_t rfl (br_f h0 (br_f q ⟨by decide, by decide, hin8, br_f hlt' ⟨rfl, hR⟩⟩))
theorem ge_pk {k C m p : Nat} (hm : m < 2) (hC : C ≤ 128) (hz : ∀ i, z i ≤ 8) (hlo : lo_ok z C ba ly) (hpa : ∀ a, a < 128 → pa a = if a < C then ly a else -1) (hmm : mm_ok z C ba ly mO mA kd vl) (hpl : lk_pl z ba p)
    (hR : i_Rel k (0, 6, 7, nI mM, nI mS, nI mI, nI mc, nI sc, 1, nI lc, qc, nI C, na_v ar, na_v bd, na_v bv, na_v mo, na_v z, na_v fo, fa, fn, na_v od, po, wn, rt, qu, ba, pa, mO, mA, st, ct, aO, aA, oC, ou) (nI mM, nI mS, nI mI, nI mc, nI sc, 1, nI lc, nI C, na_v ar, na_v mo, na_v y, na_v fo, na_v nN, fa, na_v bd, na_v bv, na_v od, ly, rY, kd, vl, ou, st, aO, aV, cY, oC)) : wX_peek_50 (fun r => wpY_peek (fun r' => r' = r ∧ i_Rel k (0, 6, 7, nI mM, nI mS, nI mI, nI mc, nI sc, 1, nI lc, qc, nI C, na_v ar, na_v bd, na_v bv, na_v mo, na_v z, na_v fo, fa, fn, na_v od, po, wn, rt, qu, ba, pa, mO, mA, st, ct, aO, aA, oC, ou) (nI mM, nI mS, nI mI, nI mc, nI sc, 1, nI lc, nI C, na_v ar, na_v mo, na_v y, na_v fo, na_v nN, fa, na_v bd, na_v bv, na_v od, ly, rY, kd, vl, ou, st, aO, aV, cY, oC)) (nI mM, nI mS, nI mI, nI mc, nI sc, 1, nI lc, nI C, na_v ar, na_v mo, na_v y, na_v fo, na_v nN, fa, na_v bd, na_v bv, na_v od, ly, rY, kd, vl, ou, st, aO, aV, cY, oC) (nI m) (nI p)) (nI m) (nI (lk_ix ba m p)) 0 6 7 (nI mM) (nI mS) (nI mI) (nI mc) (nI sc) 1 (nI lc) qc (nI C) (na_v ar) (na_v bd) (na_v bv) (na_v mo) (na_v z) (na_v fo) fa fn (na_v od) po wn rt qu ba pa mO mA st ct aO aA oC ou := by
  have p1 := hpl.1
  obtain ⟨l1, l2, l3, _⟩ := lo_pl (by omega) hlo hpl
  have hix : lk_ix ba m p < 256 := by unfold lk_ix; split <;> omega
  have hin : vp_in (nI (lk_ix ba m p)) 256 := vp_in_nI hix (by decide)
  have q0 : ¬ nI m < 0 := nI_pos (by omega)
  have q1 : ¬ (1 : Int32) < nI m := nI_nlt (a := 1) (by omega) (by decide)
  have q2 : ¬ nI m = 2 := fun e => by have := na_im (b := 2) e (by omega) (by decide); omega
  have e3 : 128 * nI m + nI p = nI (128 * m + p) := na_128 m p
  have hin3 : vp_in (nI (128 * m + p)) 256 := vp_in_nI (by omega) (by decide)
  obtain ⟨c, e1, e2, hop, _, h7, h7'⟩ := hmm.2 p hpl m hm
  have hc : c ≤ 22 := by unfold fd_op at hop; omega
  refine ⟨hin, hin, ?_⟩
  rw [nI_clamp (by omega), e2]
  have ek : kd (nI (128 * m + p)).toNatClampNeg = nI c := by rw [nI_clamp (by omega), e1]
  refine pk_eq c 0 (fun h0 => ?_) (fun h0 => pk_eq c 7 (fun hc7 => ?_) (fun hc7 => ?_))
  · refine br_f q2 (br_f q0 (br_f q1 (ad_y1 hC hz hlo hpl (br_t (nI_pos' (by omega)) (nm_r e3 ⟨hin3, br_t (by rw [ek, h0]; rfl) ⟨hin3, ?_, hR⟩⟩)))))
    rw [nI_clamp (by omega), h7 (by omega)]
  · obtain ⟨hok, ea⟩ := h7' (by omega)
    rw [ea, if_neg (by omega)]
    refine ad_ap hm hC hlo hpa hok (br_f q2 (br_f q0 (br_f q1 (ad_y1 hC hz hlo hpl (br_t (nI_pos' (by omega)) (nm_r e3 ⟨hin3, br_f (by rw [ek, hc7]; decide) ⟨hin3, br_t (by rw [ek, hc7]; rfl) ⟨hin3, ?_, hR⟩⟩⟩))))))
    rw [nI_clamp (by omega)]
  · exact br_f q2 (br_f q0 (br_f q1 (ad_y1 hC hz hlo hpl (br_t (nI_pos' (by omega)) (nm_r e3 ⟨hin3, br_f (by rw [ek]; exact nI_ne0 (by omega) (by omega)) ⟨hin3, br_f (by rw [ek]; exact fun e => hc7 (na_im (b := 7) e (by omega) (by decide))) ⟨rfl, hR⟩⟩⟩)))))
theorem ge_peek {k : Nat} (v1 v2 : Int32) (hF : fd_ok mM mS mI mc sc ar bd bv mo z y fo nN od fa fn) (hL : L = 0 ∨ (L = 1 ∧ lk_all mc lc bd bv z od cc cl po wn ba pa mO mA ct aO aA oC ly kd vl aV cY)) :
    wpX_peek (fun r => wpY_peek (fun r' => r' = r ∧ i_Rel k (0, 6, 7, nI mM, nI mS, nI mI, nI mc, nI sc, L, nI lc, qc, cc, na_v ar, na_v bd, na_v bv, na_v mo, na_v z, na_v fo, fa, fn, na_v od, po, wn, rt, qu, ba, pa, mO, mA, st, ct, aO, aA, oC, ou) (nI mM, nI mS, nI mI, nI mc, nI sc, L, nI lc, cl, na_v ar, na_v mo, na_v y, na_v fo, na_v nN, fa, na_v bd, na_v bv, na_v od, ly, rY, kd, vl, ou, st, aO, aV, cY, oC)) (nI mM, nI mS, nI mI, nI mc, nI sc, L, nI lc, cl, na_v ar, na_v mo, na_v y, na_v fo, na_v nN, fa, na_v bd, na_v bv, na_v od, ly, rY, kd, vl, ou, st, aO, aV, cY, oC) v1 v2) (0, 6, 7, nI mM, nI mS, nI mI, nI mc, nI sc, L, nI lc, qc, cc, na_v ar, na_v bd, na_v bv, na_v mo, na_v z, na_v fo, fa, fn, na_v od, po, wn, rt, qu, ba, pa, mO, mA, st, ct, aO, aA, oC, ou) v1 v2 := by
  have hR : i_Rel k (0, 6, 7, nI mM, nI mS, nI mI, nI mc, nI sc, L, nI lc, qc, cc, na_v ar, na_v bd, na_v bv, na_v mo, na_v z, na_v fo, fa, fn, na_v od, po, wn, rt, qu, ba, pa, mO, mA, st, ct, aO, aA, oC, ou) (nI mM, nI mS, nI mI, nI mc, nI sc, L, nI lc, cl, na_v ar, na_v mo, na_v y, na_v fo, na_v nN, fa, na_v bd, na_v bv, na_v od, ly, rY, kd, vl, ou, st, aO, aV, cY, oC) := zz_in hF hL
  by_cases h2 : v1 = 2
  · subst h2
    exact ge_source v2 hF hR
  rcases ge_mach v1 with ⟨m, hm, rfl⟩ | ⟨g0, g1, g2 | ⟨g2, g3⟩⟩
  · have q0 : ¬ nI m < 0 := nI_pos (by omega)
    have q1 : ¬ (1 : Int32) < nI m := nI_nlt (a := 1) (by omega) (by decide)
    have hz : ∀ i, z i ≤ 8 := hF.2.2.2.2.2.2.2.2.1
    rcases hL with rfl | ⟨rfl, C, ⟨rfl, rfl, hC⟩, hld, hnd, hwn, hzc, hlo, hpa, hmm, hrg⟩
    · exact br_f h2 (ge_im hm (br_f (by decide) (br_t rfl (br_f na_m1le (br_f h2 (br_f q0 (br_f q1 (br_t rfl (br_f na_m1le ⟨rfl, hR⟩)))))))))
    · by_cases h0 : v2 < 0
      · exact br_f h2 (ge_im hm (br_f (by decide) (br_f (by decide) (ad_xn h0 (br_f na_m1le (br_f h2 (br_f q0 (br_f q1 (ad_ym h0 (br_f na_m1le ⟨rfl, hR⟩))))))))))
      obtain ⟨p, hp, rfl⟩ := nI_of h0
      by_cases h : lk_pl z ba p
      · have l2 := (lo_pl (by omega) hlo h).2.1
        have K := ge_pk hm hC hz hlo hpa hmm h hR
        have hm2 : m = 0 ∨ m = 1 := by omega
        rcases hm2 with rfl | rfl
        · exact br_f h2 (ge_im hm (br_f (by decide) (br_f (by decide) (ad_x1 h hz (br_t (nI_pos' (by omega)) (br_t rfl K))))))
        · refine br_f h2 (ge_im hm (br_f (by decide) (br_f (by decide) (ad_x1 h hz (br_t (nI_pos' (by omega)) (br_f (by decide) ?_))))))
          rw [na_a128]
          exact K
      · exact br_f h2 (ge_im hm (br_f (by decide) (br_f (by decide) (ad_x0 h hz hp (br_f na_m1le (br_f h2 (br_f q0 (br_f q1 (ad_y0 hC hz hlo h hp (br_f na_m1le ⟨rfl, hR⟩))))))))))
  · exact br_f h2 (ge_in g0 g1 (br_t rfl (br_f h2 (br_t g2 ⟨rfl, hR⟩))))
  · exact br_f h2 (ge_in g0 g1 (br_t rfl (br_f h2 (br_f g2 (br_t g3 ⟨rfl, hR⟩)))))
/-! declared -/
theorem ge_xs {post : Int32 → Prop} {m : Nat} (hm : m < 8) (hs : sc ≤ 8) (ho : ∀ i, mo i < 8) (hp : post (nI (ge_ct mo m sc))) :
    ∀ k i f, i + k = sc → k < f → wX_sectionsOf_4 post (nI m) 0 6 7 (nI mM) (nI mS) (nI mI) (nI mc) (nI sc) L (nI lc) qc cc (na_v ar) (na_v bd) (na_v bv) (na_v mo) (na_v z) (na_v fo) fa fn (na_v od) po wn rt qu ba pa mO mA st ct aO aA oC ou f (nI (ge_ct mo m i)) (nI i) := by
  intro k
  induction k with
  | zero =>
    intro i f hi hf
    obtain ⟨f, rfl⟩ := na_fu hf
    obtain rfl : i = sc := by omega
    exact pk_le i i (fun _ => hp) (fun h => absurd h (by omega))
  | succ k ih =>
    intro i f hi hf
    obtain ⟨f, rfl⟩ := na_fu hf
    have hoi := ho i
    have ih2 := ih (i + 1) f (by omega) (by omega)
    unfold ge_ct at ih2
    refine pk_le sc i (fun h => absurd h (by omega)) (fun _ => ⟨vp_in_nI (by omega) (by decide), pk_eq (mo i) m (fun h => nm_r (nI_1 _) (nm_r (nI_1 i) ?_)) (fun h => nm_r (nI_1 i) ?_) (na_r (by omega))⟩)
    · rw [if_pos h] at ih2; exact ih2
    · rw [if_neg h] at ih2; exact ih2
theorem ge_ys {post : Int32 → Prop} {m : Nat} (hm : m < 8) (hs : sc ≤ 8) (ho : ∀ i, mo i < 8) (hp : post (nI (ge_ct mo m sc))) :
    ∀ k i f, i + k = sc → k < f → wY_declared_75 post (nI m) (nI mM) (nI mS) (nI mI) (nI mc) (nI sc) L (nI lc) cl (na_v ar) (na_v mo) (na_v y) (na_v fo) (na_v nN) fa (na_v bd) (na_v bv) (na_v od) ly rY kd vl ou st aO aV cY oC f (nI (ge_ct mo m i)) (nI i) := by
  intro k
  induction k with
  | zero =>
    intro i f hi hf
    obtain ⟨f, rfl⟩ := na_fu hf
    obtain rfl : i = sc := by omega
    exact pk_le i i (fun _ => hp) (fun h => absurd h (by omega))
  | succ k ih =>
    intro i f hi hf
    obtain ⟨f, rfl⟩ := na_fu hf
    have hoi := ho i
    have ih2 := ih (i + 1) f (by omega) (by omega)
    unfold ge_ct at ih2
    refine pk_le sc i (fun h => absurd h (by omega)) (fun _ => ⟨vp_in_nI (by omega) (by decide), pk_eq (mo i) m (fun h => nm_r (nI_1 _) (nm_r (nI_1 i) ?_)) (fun h => nm_r (nI_1 i) ?_) (na_r (by omega))⟩)
    · rw [if_pos h] at ih2; exact ih2
    · rw [if_neg h] at ih2; exact ih2
theorem ge_declared {k : Nat} (v1 v2 : Int32) (hF : fd_ok mM mS mI mc sc ar bd bv mo z y fo nN od fa fn) (hL : L = 0 ∨ (L = 1 ∧ lk_all mc lc bd bv z od cc cl po wn ba pa mO mA ct aO aA oC ly kd vl aV cY)) :
    wpX_declared (fun r => wpY_declared (fun r' => r' = r ∧ i_Rel k (0, 6, 7, nI mM, nI mS, nI mI, nI mc, nI sc, L, nI lc, qc, cc, na_v ar, na_v bd, na_v bv, na_v mo, na_v z, na_v fo, fa, fn, na_v od, po, wn, rt, qu, ba, pa, mO, mA, st, ct, aO, aA, oC, ou) (nI mM, nI mS, nI mI, nI mc, nI sc, L, nI lc, cl, na_v ar, na_v mo, na_v y, na_v fo, na_v nN, fa, na_v bd, na_v bv, na_v od, ly, rY, kd, vl, ou, st, aO, aV, cY, oC)) (nI mM, nI mS, nI mI, nI mc, nI sc, L, nI lc, cl, na_v ar, na_v mo, na_v y, na_v fo, na_v nN, fa, na_v bd, na_v bv, na_v od, ly, rY, kd, vl, ou, st, aO, aV, cY, oC) v1 v2) (0, 6, 7, nI mM, nI mS, nI mI, nI mc, nI sc, L, nI lc, qc, cc, na_v ar, na_v bd, na_v bv, na_v mo, na_v z, na_v fo, fa, fn, na_v od, po, wn, rt, qu, ba, pa, mO, mA, st, ct, aO, aA, oC, ou) v1 v2 := by
  have hR : i_Rel k (0, 6, 7, nI mM, nI mS, nI mI, nI mc, nI sc, L, nI lc, qc, cc, na_v ar, na_v bd, na_v bv, na_v mo, na_v z, na_v fo, fa, fn, na_v od, po, wn, rt, qu, ba, pa, mO, mA, st, ct, aO, aA, oC, ou) (nI mM, nI mS, nI mI, nI mc, nI sc, L, nI lc, cl, na_v ar, na_v mo, na_v y, na_v fo, na_v nN, fa, na_v bd, na_v bv, na_v od, ly, rY, kd, vl, ou, st, aO, aV, cY, oC) := zz_in hF hL
  obtain ⟨h1, h2, h3, h4, h5, h6, h7, h8, h9, h10, h11, h12, h13, h14, h15, h16, h17⟩ := hF
  by_cases g0 : v1 < 0
  · exact br_t g0 (br_t g0 ⟨rfl, hR⟩)
  obtain ⟨m, hm, rfl⟩ := nI_of g0
  by_cases hmc : m < mc
  · have q1 : nI m < nI mc := nI_lt hmc (by omega)
    have q2 : ¬ nI mc ≤ nI m := nI_ge hmc (by omega)
    by_cases w0 : v2 < 0
    · have w8 : ¬ v2 = 8 := fun e => by subst e; exact absurd w0 (by decide)
      have w9 : ¬ v2 = 9 := fun e => by subst e; exact absurd w0 (by decide)
      exact br_f g0 (br_t q1 (br_f w8 (br_f w9 (br_t w0 (br_f g0 (br_f q2 (br_t w0 ⟨rfl, hR⟩)))))))
    obtain ⟨w, hw, rfl⟩ := nI_of w0
    by_cases w7 : w ≤ 7
    · have w8 : ¬ nI w = 8 := fun e => by have := na_im (b := 8) e hw (by decide); omega
      have w9 : ¬ nI w = 9 := fun e => by have := na_im (b := 9) e hw (by decide); omega
      have wl : nI w ≤ 7 := nI_le (b := 7) w7 (by decide)
      have wl9 : nI w ≤ 9 := nI_le (b := 9) (by omega) (by decide)
      have wg8 : ¬ (8 : Int32) ≤ nI w := nI_ge (b := 8) (by omega) (by decide)
      have e8 := na_8 m w
      have hin : vp_in (nI (8 * m + w)) 64 := vp_in_nI (by omega) (by decide)
      have hin2 : vp_in (8 * nI m + nI w) 64 := na_in e8 (by omega) (by decide)
      have hb := h3 (8 * m + w)
      refine br_f g0 (br_t q1 (br_f w8 (br_f w9 (br_f w0 (br_t wl (nm_r e8 ⟨hin, pk_lt (bd (8 * m + w)) 3 (fun h => ⟨hin, ?_⟩) (fun h => ⟨hin, hin, ?_⟩) (na_r (by omega))⟩))))))
      · refine br_f g0 (br_f q2 (br_f w0 (br_t wl9 (br_f wg8 ⟨hin2, hin2, ?_, hR⟩))))
        rw [e8, na_r (by omega), na_r (by omega), h4 _ h, na_m8]
        exact nI_add _ 0
      · refine br_f g0 (br_f q2 (br_f w0 (br_t wl9 (br_f wg8 ⟨hin2, hin2, ?_, hR⟩))))
        rw [e8]
    · have wl : ¬ nI w ≤ 7 := nI_ge (a := 7) (by omega) hw
      have wg8 : (8 : Int32) ≤ nI w := nI_le (a := 8) (by omega) hw
      by_cases w8 : w = 8
      · subst w8
        exact br_f g0 (br_t q1 (br_t rfl ⟨vp_in_nI (by omega) (by decide), br_f g0 (br_f q2 (br_f w0 (br_t (by decide) (br_t wg8 (br_t rfl ⟨vp_in_nI (by omega) (by decide), rfl, hR⟩)))))⟩))
      have w8' : ¬ nI w = 8 := fun e => w8 (na_im (b := 8) e hw (by decide))
      by_cases w9 : w = 9
      · subst w9
        exact br_f g0 (br_t q1 (br_f w8' (br_t rfl ⟨sc + 1, ge_xs (by omega) (by omega) h7 (br_f g0 (br_f q2 (br_f w0 (br_t (by decide) (br_t wg8 (br_f w8' ⟨sc + 1, ge_ys (by omega) (by omega) h7 ⟨rfl, hR⟩ sc 0 (sc + 1) (by omega) (by omega)⟩)))))) sc 0 (sc + 1) (by omega) (by omega)⟩)))
      · have w9' : ¬ nI w = 9 := fun e => w9 (na_im (b := 9) e hw (by decide))
        have wl9 : ¬ nI w ≤ 9 := nI_ge (a := 9) (by omega) hw
        exact br_f g0 (br_t q1 (br_f w8' (br_f w9' (br_f w0 (br_f wl (br_f g0 (br_f q2 (br_f w0 (br_f wl9 ⟨rfl, hR⟩)))))))))
  · have q1 : ¬ nI m < nI mc := nI_nlt (by omega) hm
    have q2 : nI mc ≤ nI m := nI_le (by omega) hm
    exact br_f g0 (br_f q1 (br_f g0 (br_t q2 ⟨rfl, hR⟩)))
end
theorem i_vc_loaded {k : Nat} {u : SX} {v : SY} (I : i_Rel k u v) (hk : k + 4 ≤ 2051) (v1 : Int32) : wpX_loaded (fun r => wpY_loaded (fun r' => r' = r ∧ i_Rel (k + 4) u v) v v1) u v1 :=
  zz_el (P := fun u v => wpX_loaded (fun r => wpY_loaded (fun r' => r' = r ∧ i_Rel (k + 4) u v) v v1) u v1) (fun hF hL => ge_loaded v1 hF hL) I
theorem i_vc_address {k : Nat} {u : SX} {v : SY} (I : i_Rel k u v) (hk : k + 4 ≤ 2051) (v1 : Int32) : wpX_address (fun r => wpY_address (fun r' => r' = r ∧ i_Rel (k + 4) u v) v v1) u v1 :=
  zz_el (P := fun u v => wpX_address (fun r => wpY_address (fun r' => r' = r ∧ i_Rel (k + 4) u v) v v1) u v1) (fun hF hL => ge_address v1 hF hL) I
theorem i_vc_resolve {k : Nat} {u : SX} {v : SY} (I : i_Rel k u v) (hk : k + 4 ≤ 2051) (v1 : Int32) (v2 : Int32) : wpX_resolve (fun r => wpY_resolve (fun r' => r' = r ∧ i_Rel (k + 4) u v) v v1 v2) u v1 v2 :=
  zz_el (P := fun u v => wpX_resolve (fun r => wpY_resolve (fun r' => r' = r ∧ i_Rel (k + 4) u v) v v1 v2) u v1 v2) (fun hF hL => ge_resolve v1 v2 hF hL) I
theorem i_vc_image {k : Nat} {u : SX} {v : SY} (I : i_Rel k u v) (hk : k + 4 ≤ 2051) (v1 : Int32) : wpX_image (fun r => wpY_image (fun r' => r' = r ∧ i_Rel (k + 4) u v) v v1) u v1 :=
  zz_el (P := fun u v => wpX_image (fun r => wpY_image (fun r' => r' = r ∧ i_Rel (k + 4) u v) v v1) u v1) (fun hF hL => ge_image v1 hF hL) I
theorem i_vc_acc {k : Nat} {u : SX} {v : SY} (I : i_Rel k u v) (hk : k + 4 ≤ 2051) (v1 : Int32) : wpX_acc (fun r => wpY_acc (fun r' => r' = r ∧ i_Rel (k + 4) u v) v v1) u v1 :=
  zz_el (P := fun u v => wpX_acc (fun r => wpY_acc (fun r' => r' = r ∧ i_Rel (k + 4) u v) v v1) u v1) (fun hF hL => ge_acc v1 hF hL) I
theorem i_vc_where {k : Nat} {u : SX} {v : SY} (I : i_Rel k u v) (hk : k + 4 ≤ 2051) (v1 : Int32) : wpX_where (fun r => wpY_where (fun r' => r' = r ∧ i_Rel (k + 4) u v) v v1) u v1 :=
  zz_el (P := fun u v => wpX_where (fun r => wpY_where (fun r' => r' = r ∧ i_Rel (k + 4) u v) v v1) u v1) (fun hF hL => ge_where v1 hF hL) I
theorem i_vc_output {k : Nat} {u : SX} {v : SY} (I : i_Rel k u v) (hk : k + 4 ≤ 2051) (v1 : Int32) (v2 : Int32) : wpX_output (fun r => wpY_output (fun r' => r' = r ∧ i_Rel (k + 4) u v) v v1 v2) u v1 v2 :=
  zz_el (P := fun u v => wpX_output (fun r => wpY_output (fun r' => r' = r ∧ i_Rel (k + 4) u v) v v1 v2) u v1 v2) (fun hF hL => ge_output v1 v2 hF hL) I
theorem i_vc_peek {k : Nat} {u : SX} {v : SY} (I : i_Rel k u v) (hk : k + 4 ≤ 2051) (v1 : Int32) (v2 : Int32) : wpX_peek (fun r => wpY_peek (fun r' => r' = r ∧ i_Rel (k + 4) u v) v v1 v2) u v1 v2 :=
  zz_el (P := fun u v => wpX_peek (fun r => wpY_peek (fun r' => r' = r ∧ i_Rel (k + 4) u v) v v1 v2) u v1 v2) (fun hF hL => ge_peek v1 v2 hF hL) I
theorem i_vc_declared {k : Nat} {u : SX} {v : SY} (I : i_Rel k u v) (hk : k + 4 ≤ 2051) (v1 : Int32) (v2 : Int32) : wpX_declared (fun r => wpY_declared (fun r' => r' = r ∧ i_Rel (k + 4) u v) v v1 v2) u v1 v2 :=
  zz_el (P := fun u v => wpX_declared (fun r => wpY_declared (fun r' => r' = r ∧ i_Rel (k + 4) u v) v v1 v2) u v1 v2) (fun hF hL => ge_declared v1 v2 hF hL) I
end
section
/-! numbers -/
theorem sp_m8 {c : Nat} (h : 8 ≤ c) : nI c + (-8) = nI (c - 8) := by
  obtain ⟨d, rfl⟩ : ∃ d, c = d + 8 := ⟨c - 8, by omega⟩
  rw [← nI_add d 8, Int32.add_assoc, show nI 8 + (-8) = 0 from by decide, Int32.add_zero, Nat.add_sub_cancel]
theorem sp_ne {a b : Nat} (h : a ≠ b) (ha : a < 2 ^ 31) (hb : b < 2 ^ 31) : ¬ nI a = nI b := fun e => h (na_im e ha hb)
theorem sp_ml {a x : Int32} : a + (-1) * x = a - x := by grind
theorem sp_mp {a x : Int32} : a + 1 * x = a + x := by grind
theorem sp_sa {a x : Int32} : a - x + x = a := by grind
/-! locations -/
theorem sp_loc {z : Nat → Nat} {C m q : Nat} {ba ly : Nat → Int32} (hm : m < 2) (hC : C ≤ 128) (hlo : lo_ok z C ba ly) (hq : lk_pl z ba q) :
    ∃ l, l < 128 ∧ lk_mp ba m (nI q) = nI l ∧ 128 * m + l = lk_ix ba m q ∧ (m = 0 → l = lk_a ba q) ∧ (m = 1 → l = q) := by
  have q1 := hq.1
  obtain ⟨l1, l2, _, _⟩ := lo_pl (by omega) hlo hq
  have h : m = 0 ∨ m = 1 := by omega
  rcases h with rfl | rfl
  · exact ⟨lk_a ba q, by omega, by rw [← ad_l q1]; exact if_neg (by decide), by rw [Nat.mul_zero, Nat.zero_add]; exact (if_neg (by decide)).symm, fun _ => rfl, fun h => absurd h (by decide)⟩
  · exact ⟨q, q1, if_pos rfl, by rw [Nat.mul_one]; exact (if_pos rfl).symm, fun h => absurd h (by decide), fun _ => rfl⟩
theorem sp_ix {z : Nat → Nat} {C m m' p q : Nat} {ba ly : Nat → Int32} (hC : C ≤ 128) (hlo : lo_ok z C ba ly) (hm : m < 2) (hm' : m' < 2) (hp : lk_pl z ba p) (hq : lk_pl z ba q) (h : ¬ (m = m' ∧ p = q)) : lk_ix ba m p ≠ lk_ix ba m' q := by
  have l1 := (lo_pl (by omega) hlo hp).2.1
  have l2 := (lo_pl (by omega) hlo hq).2.1
  unfold lk_ix
  intro e
  by_cases h1 : m = 1
  · by_cases h2 : m' = 1
    · rw [if_pos h1, if_pos h2] at e
      exact h ⟨by omega, by omega⟩
    · rw [if_pos h1, if_neg h2] at e
      omega
  · by_cases h2 : m' = 1
    · rw [if_neg h1, if_pos h2] at e
      omega
    · rw [if_neg h1, if_neg h2] at e
      exact h ⟨by omega, lo_inj (by omega) hlo hp hq e⟩
/-! registers -/
theorem rg_ct {z : Nat → Nat} {m : Nat} {ba ct cY aO aA aV oC : Nat → Int32} {a b : Int32} (h : rg_ok z ba ct cY aO aA aV oC) (hb : lk_ok z ba b) (e : a = lk_mp ba m b) : rg_ok z ba (upd ct m a) (upd cY m b) aO aA aV oC := by
  intro m' hm'
  obtain ⟨h1, h2, h3⟩ := h m' hm'
  refine ⟨?_, h2, h3⟩
  by_cases q : m' = m
  · subst q
    rw [pk_us, pk_us]; exact ⟨hb, e⟩
  · rw [pk_un q, pk_un q]; exact h1
theorem rg_ac {z : Nat → Nat} {m : Nat} {ba ct cY aO aA aV oC : Nat → Int32} {o a b : Int32} (h : rg_ok z ba ct cY aO aA aV oC) (e : (o = 0 ∧ a = b) ∨ (o = 7 ∧ lk_ok z ba b ∧ a = lk_mp ba m b)) : rg_ok z ba ct cY (upd aO m o) (upd aA m a) (upd aV m b) oC := by
  intro m' hm'
  obtain ⟨h1, h2, h3⟩ := h m' hm'
  refine ⟨h1, ?_, h3⟩
  by_cases q : m' = m
  · subst q
    rw [pk_us, pk_us, pk_us]; exact e
  · rw [pk_un q, pk_un q, pk_un q]; exact h2
theorem rg_a2 {z : Nat → Nat} {m : Nat} {ba ct cY aO aA aV oC : Nat → Int32} {a : Int32} (h : rg_ok z ba ct cY aO aA aV oC) (e : aO m = 0) : rg_ok z ba ct cY aO (upd aA m a) (upd aV m a) oC := by
  intro m' hm'
  obtain ⟨h1, h2, h3⟩ := h m' hm'
  refine ⟨h1, ?_, h3⟩
  by_cases q : m' = m
  · subst q
    rw [pk_us, pk_us]; exact Or.inl ⟨e, rfl⟩
  · rw [pk_un q, pk_un q]; exact h2
theorem rg_oc {z : Nat → Nat} {m k : Nat} {ba ct cY aO aA aV oC : Nat → Int32} (h : rg_ok z ba ct cY aO aA aV oC) (hk : k ≤ 16) : rg_ok z ba ct cY aO aA aV (upd oC m (nI k)) := by
  intro m' hm'
  obtain ⟨h1, h2, h3⟩ := h m' hm'
  refine ⟨h1, h2, ?_⟩
  by_cases q : m' = m
  · subst q
    rw [pk_us]; exact ⟨k, hk, rfl⟩
  · rw [pk_un q]; exact h3
/-- a store keeps the memories alike -/
theorem mm_st {z : Nat → Nat} {C m q c : Nat} {ba ly mO mA kd vl : Nat → Int32} {a v : Int32} (hm : m < 2) (hC : C ≤ 128) (hlo : lo_ok z C ba ly) (hmm : mm_ok z C ba ly mO mA kd vl) (hq : lk_pl z ba q)
    (h : (c = 0 ∧ a = v) ∨ (c = 7 ∧ lk_ok z ba v ∧ a = lk_mp ba m v)) : mm_ok z C ba ly (upd mO (lk_ix ba m q) (nI c)) (upd mA (lk_ix ba m q) a) (upd kd (128 * m + q) (nI c)) (upd vl (128 * m + q) v) := by
  have q1 := hq.1
  obtain ⟨l1, l2, l3, _⟩ := lo_pl (by omega) hlo hq
  refine ⟨fun b hb hg => ?_, fun p hp m' hm' => ?_⟩
  · have hne : b ≠ lk_ix ba m q := by
      unfold lk_ix
      split
      · omega
      · intro e
        subst e
        rcases hg with hg | hg
        · omega
        · rw [l3] at hg; exact na_ne1 (by omega) hg
    rw [pk_un hne, pk_un hne]
    exact hmm.1 b hb hg
  · by_cases e : m' = m ∧ p = q
    · obtain ⟨rfl, rfl⟩ := e
      rw [pk_us, pk_us, pk_us, pk_us]
      rcases h with ⟨rfl, rfl⟩ | ⟨rfl, h2, h3⟩
      · exact ⟨0, rfl, rfl, Or.inl (by decide), fun _ => Or.inl rfl, fun _ => rfl, fun h => absurd h (by decide)⟩
      · exact ⟨7, rfl, rfl, Or.inr (Or.inl ⟨by decide, by decide⟩), fun _ => Or.inr rfl, fun h => absurd h (by decide), fun _ => ⟨h2, by rw [if_neg (by omega)]; exact h3⟩⟩
    · have p1 := hp.1
      have n1 := sp_ix hC hlo hm' hm hp hq e
      have n2 : 128 * m' + p ≠ 128 * m + q := by omega
      rw [pk_un n1, pk_un n1, pk_un n2, pk_un n2]
      exact hmm.2 p hp m' hm'
section
variable {mM mS mI mc sc lc : Nat} {ar bd bv mo z y fo nN od : Nat → Nat} {L qc cc cl : Int32} {fa fn po wn rt qu ba pa mO mA st ct aO aA oC ou ly rY kd vl aV cY : Nat → Int32}
variable {C m p : Nat}
/-! X's opAt, Y's kindAt -/
theorem sp_op {post : Int32 → Prop} {q c : Nat} (hm : m < 2) (hC : C ≤ 128) (hz : ∀ i, z i ≤ 8) (hlo : lo_ok z C ba ly) (hmm : mm_ok z C ba ly mO mA kd vl) (hq : lk_pl z ba q) (hc : mO (lk_ix ba m q) = nI c) (hp : post (nI c)) : wpX_opAt post (0, 6, 7, nI mM, nI mS, nI mI, nI mc, nI sc, 1, nI lc, qc, nI C, na_v ar, na_v bd, na_v bv, na_v mo, na_v z, na_v fo, fa, fn, na_v od, po, wn, rt, qu, ba, pa, mO, mA, st, ct, aO, aA, oC, ou) (nI m) (lk_mp ba m (nI q)) := by
  obtain ⟨l, h1, h2, h3, _, _⟩ := sp_loc hm hC hlo hq
  rw [h2]
  refine br_f (nI_pos (by omega)) (br_t (nI_le (b := 127) (by omega) (by decide)) ⟨na_in (na_128 m l) (by omega) (by decide), ek_v ?_ hp⟩)
  rw [na_128, nI_clamp (by omega), h3, hc]
theorem sp_on {post : Int32 → Prop} (hm : m < 2) (hC : C ≤ 128) (hz : ∀ i, z i ≤ 8) (hlo : lo_ok z C ba ly) (hmm : mm_ok z C ba ly mO mA kd vl) (hp : post 6) : wpX_opAt post (0, 6, 7, nI mM, nI mS, nI mI, nI mc, nI sc, 1, nI lc, qc, nI C, na_v ar, na_v bd, na_v bv, na_v mo, na_v z, na_v fo, fa, fn, na_v od, po, wn, rt, qu, ba, pa, mO, mA, st, ct, aO, aA, oC, ou) (nI m) (lk_mp ba m (-1)) := by
  have h : m = 0 ∨ m = 1 := by omega
  rcases h with rfl | rfl
  · have e : lk_mp ba 0 (-1) = nI 0 := (if_neg (by decide)).trans (if_pos rfl)
    rw [e]
    refine br_f (by decide) (br_t (by decide) ⟨na_in (na_128 0 0) (by decide) (by decide), ek_v ?_ hp⟩)
    rw [na_128, nI_clamp (by decide)]
    exact (hmm.1 0 (by decide) (Or.inr hlo.2.1)).1
  · exact br_t na_m1lt hp
theorem sp_kd {post : Int32 → Prop} {q : Nat} (hm : m < 2) (hq : q < 128) (hp : post (kd (128 * m + q))) : wpY_kindAt post (nI mM, nI mS, nI mI, nI mc, nI sc, 1, nI lc, nI C, na_v ar, na_v mo, na_v y, na_v fo, na_v nN, fa, na_v bd, na_v bv, na_v od, ly, rY, kd, vl, ou, st, aO, aV, cY, oC) (nI m) (nI q) := by
  refine br_f (nI_pos (by omega)) (br_t (nI_le (b := 127) (by omega) (by decide)) ⟨na_in (na_128 m q) (by omega) (by decide), ek_v ?_ hp⟩)
  rw [na_128, nI_clamp (by omega)]
theorem sp_kn {post : Int32 → Prop} (hp : post 6) : wpY_kindAt post (nI mM, nI mS, nI mI, nI mc, nI sc, 1, nI lc, nI C, na_v ar, na_v mo, na_v y, na_v fo, na_v nN, fa, na_v bd, na_v bv, na_v od, ly, rY, kd, vl, ou, st, aO, aV, cY, oC) (nI m) (-1) := br_t na_m1lt hp
theorem sp_ka (hm : m < 2) (v : Int32) : ∃ t, ∀ post : Int32 → Prop, post t → wpY_kindAt post (nI mM, nI mS, nI mI, nI mc, nI sc, 1, nI lc, nI C, na_v ar, na_v mo, na_v y, na_v fo, na_v nN, fa, na_v bd, na_v bv, na_v od, ly, rY, kd, vl, ou, st, aO, aV, cY, oC) (nI m) v := by
  by_cases h : v < 0
  · exact ⟨6, fun post hp => br_t h hp⟩
  · obtain ⟨j, hj, rfl⟩ := nI_of h
    by_cases h2 : j < 128
    · exact ⟨_, fun post hp => sp_kd hm h2 hp⟩
    · exact ⟨6, fun post hp => br_f h (br_f (nI_ge (a := 127) (by omega) hj) hp)⟩
/-! on to the next cell -/
theorem sp_x41 {post : SX → Prop} {x2 : Int32} (hm : m < 2) (hp : post (0, 6, 7, nI mM, nI mS, nI mI, nI mc, nI sc, 1, nI lc, qc, nI C, na_v ar, na_v bd, na_v bv, na_v mo, na_v z, na_v fo, fa, fn, na_v od, po, wn, rt, qu, ba, pa, mO, mA, st, upd ct m (x2 + 1), aO, aA, oC, ou)) : wX_goOn_41 post (nI m) x2 0 0 6 7 (nI mM) (nI mS) (nI mI) (nI mc) (nI sc) 1 (nI lc) qc (nI C) (na_v ar) (na_v bd) (na_v bv) (na_v mo) (na_v z) (na_v fo) fa fn (na_v od) po wn rt qu ba pa mO mA st ct aO aA oC ou :=
  br_t rfl ⟨vp_in_nI hm (by decide), nm_r (na_uc (by omega)) hp⟩
theorem sp_x42 {post : SX → Prop} {x2 : Int32} (hm : m < 2) (hp : post (0, 6, 7, nI mM, nI mS, nI mI, nI mc, nI sc, 1, nI lc, qc, nI C, na_v ar, na_v bd, na_v bv, na_v mo, na_v z, na_v fo, fa, fn, na_v od, po, wn, rt, qu, ba, pa, mO, mA, upd st m 2, ct, aO, aA, oC, ou)) : wX_goOn_41 post (nI m) x2 1 0 6 7 (nI mM) (nI mS) (nI mI) (nI mc) (nI sc) 1 (nI lc) qc (nI C) (na_v ar) (na_v bd) (na_v bv) (na_v mo) (na_v z) (na_v fo) fa fn (na_v od) po wn rt qu ba pa mO mA st ct aO aA oC ou :=
  br_f (by decide) ⟨vp_in_nI hm (by decide), nm_r (na_uc (by omega)) hp⟩
theorem sp_y5 {post : SY → Prop} (hm : m < 2) (hpp : p < 128) (hF : fd_ok mM mS mI mc sc ar bd bv mo z y fo nN od fa fn) (hl : lc ≤ 8) (hzc : ∀ n, n < 8 → z (8 + n) = wi_cm bd bv od n lc)
    (h1 : p % 8 + 1 < z (p / 8) → post (nI mM, nI mS, nI mI, nI mc, nI sc, 1, nI lc, nI C, na_v ar, na_v mo, na_v y, na_v fo, na_v nN, fa, na_v bd, na_v bv, na_v od, ly, rY, kd, vl, ou, st, aO, aV, upd cY m (nI (p + 1)), oC)) (h2 : z (p / 8) ≤ p % 8 + 1 → post (nI mM, nI mS, nI mI, nI mc, nI sc, 1, nI lc, nI C, na_v ar, na_v mo, na_v y, na_v fo, na_v nN, fa, na_v bd, na_v bv, na_v od, ly, rY, kd, vl, ou, upd st m 2, aO, aV, cY, oC)) : wY_step_517 post (nI m) (nI p) (nI mM) (nI mS) (nI mI) (nI mc) (nI sc) 1 (nI lc) (nI C) (na_v ar) (na_v mo) (na_v y) (na_v fo) (na_v nN) fa (na_v bd) (na_v bv) (na_v od) ly rY kd vl ou st aO aV cY oC := by
  have e1 : nI p - nI p / 8 * 8 + 1 = nI (p % 8 + 1) := by rw [na_r8 (by omega), nI_1]
  have e2 : nI p / 8 = nI (p / 8) := na_d8 (by omega)
  have hz8 : z (p / 8) ≤ 8 := hF.2.2.2.2.2.2.2.2.1 _
  refine ⟨by decide, by decide, ?_⟩
  rw [e2]
  refine wi_ys (by omega) hF hl hzc (pk_lt (p % 8 + 1) (z (p / 8)) (fun h => ⟨vp_in_nI hm (by decide), ?_⟩) (fun h => ⟨vp_in_nI hm (by decide), nm_r (na_uc (by omega)) (h2 h)⟩) (by rw [← e2]; exact e1))
  exact nm_r (e' := upd cY m (nI (p + 1))) (by rw [nI_clamp (by omega), nI_1]) (h1 h)
theorem sp_go (hm : m < 2) (hC : C ≤ 128) (hz : ∀ i, z i ≤ 8) (hlo : lo_ok z C ba ly) (hmm : mm_ok z C ba ly mO mA kd vl) (hpl : lk_pl z ba p) (h64 : p < 64) (hF : fd_ok mM mS mI mc sc ar bd bv mo z y fo nN od fa fn) (hl : lc ≤ 8) (hzc : ∀ n, n < 8 → z (8 + n) = wi_cm bd bv od n lc) :
    ∃ st' ct' cY', (∀ aO aA aV oC, rg_ok z ba ct cY aO aA aV oC → rg_ok z ba ct' cY' aO aA aV oC) ∧
      (∀ post : SX → Prop, post (0, 6, 7, nI mM, nI mS, nI mI, nI mc, nI sc, 1, nI lc, qc, nI C, na_v ar, na_v bd, na_v bv, na_v mo, na_v z, na_v fo, fa, fn, na_v od, po, wn, rt, qu, ba, pa, mO, mA, st', ct', aO, aA, oC, ou) → wpX_goOn post (0, 6, 7, nI mM, nI mS, nI mI, nI mc, nI sc, 1, nI lc, qc, nI C, na_v ar, na_v bd, na_v bv, na_v mo, na_v z, na_v fo, fa, fn, na_v od, po, wn, rt, qu, ba, pa, mO, mA, st, ct, aO, aA, oC, ou) (nI m) (lk_mp ba m (nI p))) ∧
      (∀ post : SY → Prop, post (nI mM, nI mS, nI mI, nI mc, nI sc, 1, nI lc, nI C, na_v ar, na_v mo, na_v y, na_v fo, na_v nN, fa, na_v bd, na_v bv, na_v od, ly, rY, kd, vl, ou, st', aO, aV, cY', oC) → wY_step_517 post (nI m) (nI p) (nI mM) (nI mS) (nI mI) (nI mc) (nI sc) 1 (nI lc) (nI C) (na_v ar) (na_v mo) (na_v y) (na_v fo) (na_v nN) fa (na_v bd) (na_v bv) (na_v od) ly rY kd vl ou st aO aV cY oC) := by
  obtain ⟨l1, l2, l3, l4⟩ := lo_pl (by omega) hlo hpl
  obtain ⟨l5, l6⟩ := l4 h64
  have hz8 := hz (p / 8)
  have p3 := hpl.2.2
  have e1 : (1 : Int32).toInt = 1 := by decide
  obtain ⟨l, a1, a2, a3, a4, a5⟩ := sp_loc hm hC hlo hpl
  by_cases hn : p % 8 + 1 < z (p / 8)
  · have hpl' : lk_pl z ba (p + 1) := ⟨by omega, by rw [show (p + 1) / 8 = p / 8 from by omega]; exact hpl.2.1, by rw [show (p + 1) / 8 = p / 8 from by omega]; omega⟩
    have ea : lk_a ba (p + 1) = lk_a ba p + 1 := by
      unfold lk_a
      rw [show (p + 1) / 8 = p / 8 from by omega]; omega
    obtain ⟨l', b1, b2, b3, b4, b5⟩ := sp_loc hm hC hlo hpl'
    have hll : l' = l + 1 := by
      have h : m = 0 ∨ m = 1 := by omega
      rcases h with h | h
      · rw [a4 h, b4 h, ea]
      · rw [a5 h, b5 h]
    have e : nI l + 1 = lk_mp ba m (nI (p + 1)) := by rw [b2, nI_1, hll]
    refine ⟨st, upd ct m (lk_mp ba m (nI (p + 1))), upd cY m (nI (p + 1)), fun aO aA aV oC h => rg_ct h (Or.inr ⟨p + 1, hpl', rfl⟩) rfl, fun post hp => ?_, fun post hp => sp_y5 hm (by omega) hF hl hzc (fun _ => hp) (fun h => absurd hn (by omega))⟩
    rw [← e] at hp
    rw [a2]
    have h : m = 0 ∨ m = 1 := by omega
    rcases h with rfl | rfl
    · refine br_t rfl ?_
      obtain ⟨c, _, c2, c3, _⟩ := hmm.2 (p + 1) hpl' 0 (by decide)
      have hc : c ≤ 22 ∧ c ≠ 6 := by unfold fd_op at c3; omega
      rw [e]
      refine sp_op (m := 0) (by decide) hC hz hlo hmm hpl' c2 (br_f (sp_ne (b := 6) hc.2 (by omega) (by decide)) ?_)
      exact sp_x41 hm hp
    · rw [a5 rfl]
      rw [a5 rfl] at hp
      refine br_f (by decide) (ad_bk (by omega) hz (by rw [e1]; decide) (fun h => br_f (by decide) (sp_x41 hm hp)) (fun h => absurd ⟨?_, ?_⟩ h))
      · rw [e1]; omega
      · rw [e1]; omega
  · refine ⟨upd st m 2, ct, cY, fun aO aA aV oC h => h, fun post hp => ?_, fun post hp => sp_y5 hm (by omega) hF hl hzc (fun h => absurd h hn) (fun _ => hp)⟩
    rw [a2]
    have h : m = 0 ∨ m = 1 := by omega
    rcases h with rfl | rfl
    · have eg : ly (lk_a ba p + 1) = -1 := by
        rcases l6 with h | h
        · exact absurd h.1 hn
        · exact h.2
      have mg := (hmm.1 (lk_a ba p + 1) (by omega) (Or.inr eg)).1
      rw [a4 rfl]
      refine br_t rfl ?_
      rw [nI_1]
      refine br_f (nI_pos (by omega)) (br_t (nI_le (b := 127) (by omega) (by decide)) ⟨na_in (na_128 0 _) (by omega) (by decide), ?_⟩)
      have ei : mO (128 * nI 0 + nI (lk_a ba p + 1)).toNatClampNeg = 6 := by rw [na_128, nI_clamp (by omega), Nat.mul_zero, Nat.zero_add, mg]
      exact br_t ei (sp_x42 hm hp)
    · rw [a5 rfl]
      refine br_f (by decide) (ad_bk (by omega) hz (by rw [e1]; decide) (fun h => absurd h.2 ?_) (fun h => br_t rfl (sp_x42 hm hp)))
      rw [e1]; omega
end
end
section
section
variable {mM mS mI mc sc lc : Nat} {ar bd bv mo z y fo nN od : Nat → Nat} {L qc cc cl : Int32} {fa fn po wn rt qu ba pa mO mA st ct aO aA oC ou ly rY kd vl aV cY : Nat → Int32}
variable {C m p : Nat}
/-! X: from the choice to perform -/
theorem sp_57 {post : SX → Prop} {e : Nat} {x2 a : Int32} (he : e < 16) (h3 : e ≠ 3) (h5 : e ≠ 5) (h12 : e ≠ 12) (h13 : e ≠ 13) (h : wX_step_134 post (nI m) x2 (nI e) a 0 6 7 (nI mM) (nI mS) (nI mI) (nI mc) (nI sc) 1 (nI lc) qc (nI C) (na_v ar) (na_v bd) (na_v bv) (na_v mo) (na_v z) (na_v fo) fa fn (na_v od) po wn rt qu ba pa mO mA st ct aO aA oC ou) : wX_step_57 post (nI m) x2 (nI e) a 0 6 7 (nI mM) (nI mS) (nI mI) (nI mc) (nI sc) 1 (nI lc) qc (nI C) (na_v ar) (na_v bd) (na_v bv) (na_v mo) (na_v z) (na_v fo) fa fn (na_v od) po wn rt qu ba pa mO mA st ct aO aA oC ou :=
  br_f (sp_ne (b := 3) h3 (by omega) (by decide)) (br_f (sp_ne (b := 5) h5 (by omega) (by decide)) (br_f (sp_ne (b := 12) h12 (by omega) (by decide)) (br_f (sp_ne (b := 13) h13 (by omega) (by decide)) h)))
/-- a trap -/
theorem sp_tr {e : Nat} {a : Int32} (hm : m < 2) (hC : C ≤ 128) (hz : ∀ i, z i ≤ 8) (hlo : lo_ok z C ba ly) (hmm : mm_ok z C ba ly mO mA kd vl) (hrg : rg_ok z ba ct cY aO aA aV oC) (hpl : lk_pl z ba p) (h57 : ∀ post : SX → Prop, wX_step_134 post (nI m) (lk_mp ba m (nI p)) (nI e) a 0 6 7 (nI mM) (nI mS) (nI mI) (nI mc) (nI sc) 1 (nI lc) qc (nI C) (na_v ar) (na_v bd) (na_v bv) (na_v mo) (na_v z) (na_v fo) fa fn (na_v od) po wn rt qu ba pa mO mA st ct aO aA oC ou → wX_step_57 post (nI m) (lk_mp ba m (nI p)) (nI e) a 0 6 7 (nI mM) (nI mS) (nI mI) (nI mc) (nI sc) 1 (nI lc) qc (nI C) (na_v ar) (na_v bd) (na_v bv) (na_v mo) (na_v z) (na_v fo) fa fn (na_v od) po wn rt qu ba pa mO mA st ct aO aA oC ou)
    (hx : ∀ post : Int32 → SX → Prop, post 0 (0, 6, 7, nI mM, nI mS, nI mI, nI mc, nI sc, 1, nI lc, qc, nI C, na_v ar, na_v bd, na_v bv, na_v mo, na_v z, na_v fo, fa, fn, na_v od, po, wn, rt, qu, ba, pa, mO, mA, st, ct, aO, aA, oC, ou) → wpX_perform post (0, 6, 7, nI mM, nI mS, nI mI, nI mc, nI sc, 1, nI lc, qc, nI C, na_v ar, na_v bd, na_v bv, na_v mo, na_v z, na_v fo, fa, fn, na_v od, po, wn, rt, qu, ba, pa, mO, mA, st, ct, aO, aA, oC, ou) (nI m) (nI e) a) (hy : ∀ post : SY → Prop, post (nI mM, nI mS, nI mI, nI mc, nI sc, 1, nI lc, nI C, na_v ar, na_v mo, na_v y, na_v fo, na_v nN, fa, na_v bd, na_v bv, na_v od, ly, rY, kd, vl, ou, upd st m 2, aO, aV, cY, oC) → wY_step_23 post (nI m) (nI p) (nI e) (nI mM) (nI mS) (nI mI) (nI mc) (nI sc) 1 (nI lc) (nI C) (na_v ar) (na_v mo) (na_v y) (na_v fo) (na_v nN) fa (na_v bd) (na_v bv) (na_v od) ly rY kd vl ou st aO aV cY oC) :
    ∃ (mO' mA' st' ct' aO' aA' oC' ou' kd' vl' aV' cY' : Nat → Int32), mm_ok z C ba ly mO' mA' kd' vl' ∧ rg_ok z ba ct' cY' aO' aA' aV' oC' ∧ (∀ post : SX → Prop, post (0, 6, 7, nI mM, nI mS, nI mI, nI mc, nI sc, 1, nI lc, qc, nI C, na_v ar, na_v bd, na_v bv, na_v mo, na_v z, na_v fo, fa, fn, na_v od, po, wn, rt, qu, ba, pa, mO', mA', st', ct', aO', aA', oC', ou') → wX_step_57 post (nI m) (lk_mp ba m (nI p)) (nI e) a 0 6 7 (nI mM) (nI mS) (nI mI) (nI mc) (nI sc) 1 (nI lc) qc (nI C) (na_v ar) (na_v bd) (na_v bv) (na_v mo) (na_v z) (na_v fo) fa fn (na_v od) po wn rt qu ba pa mO mA st ct aO aA oC ou) ∧ (∀ post : SY → Prop, post (nI mM, nI mS, nI mI, nI mc, nI sc, 1, nI lc, nI C, na_v ar, na_v mo, na_v y, na_v fo, na_v nN, fa, na_v bd, na_v bv, na_v od, ly, rY, kd', vl', ou', st', aO', aV', cY', oC') → wY_step_23 post (nI m) (nI p) (nI e) (nI mM) (nI mS) (nI mI) (nI mc) (nI sc) 1 (nI lc) (nI C) (na_v ar) (na_v mo) (na_v y) (na_v fo) (na_v nN) fa (na_v bd) (na_v bv) (na_v od) ly rY kd vl ou st aO aV cY oC) := by
  refine ⟨mO, mA, upd st m 2, ct, aO, aA, oC, ou, kd, vl, aV, cY, hmm, hrg, fun post hp => h57 post ?_, hy⟩
  unfold wX_step_134
  refine hx _ ?_
  exact br_t rfl ⟨vp_in_nI hm (by decide), nm_r (na_uc (by omega)) hp⟩
/-- it goes on -/
theorem sp_ok {e : Nat} {a : Int32} {mO1 mA1 aO1 aA1 oC1 ou1 kd1 vl1 aV1 : Nat → Int32} (hm : m < 2) (hC : C ≤ 128) (hz : ∀ i, z i ≤ 8) (hlo : lo_ok z C ba ly) (hmm : mm_ok z C ba ly mO mA kd vl) (hrg : rg_ok z ba ct cY aO aA aV oC) (hpl : lk_pl z ba p) (h64 : p < 64) (hF : fd_ok mM mS mI mc sc ar bd bv mo z y fo nN od fa fn) (hl : lc ≤ 8) (hzc : ∀ n, n < 8 → z (8 + n) = wi_cm bd bv od n lc) (h57 : ∀ post : SX → Prop, wX_step_134 post (nI m) (lk_mp ba m (nI p)) (nI e) a 0 6 7 (nI mM) (nI mS) (nI mI) (nI mc) (nI sc) 1 (nI lc) qc (nI C) (na_v ar) (na_v bd) (na_v bv) (na_v mo) (na_v z) (na_v fo) fa fn (na_v od) po wn rt qu ba pa mO mA st ct aO aA oC ou → wX_step_57 post (nI m) (lk_mp ba m (nI p)) (nI e) a 0 6 7 (nI mM) (nI mS) (nI mI) (nI mc) (nI sc) 1 (nI lc) qc (nI C) (na_v ar) (na_v bd) (na_v bv) (na_v mo) (na_v z) (na_v fo) fa fn (na_v od) po wn rt qu ba pa mO mA st ct aO aA oC ou)
    (mm1 : mm_ok z C ba ly mO1 mA1 kd1 vl1) (rg1 : rg_ok z ba ct cY aO1 aA1 aV1 oC1)
    (hx : ∀ post : Int32 → SX → Prop, post 1 (0, 6, 7, nI mM, nI mS, nI mI, nI mc, nI sc, 1, nI lc, qc, nI C, na_v ar, na_v bd, na_v bv, na_v mo, na_v z, na_v fo, fa, fn, na_v od, po, wn, rt, qu, ba, pa, mO1, mA1, st, ct, aO1, aA1, oC1, ou1) → wpX_perform post (0, 6, 7, nI mM, nI mS, nI mI, nI mc, nI sc, 1, nI lc, qc, nI C, na_v ar, na_v bd, na_v bv, na_v mo, na_v z, na_v fo, fa, fn, na_v od, po, wn, rt, qu, ba, pa, mO, mA, st, ct, aO, aA, oC, ou) (nI m) (nI e) a)
    (hy : ∀ post : SY → Prop, wY_step_517 post (nI m) (nI p) (nI mM) (nI mS) (nI mI) (nI mc) (nI sc) 1 (nI lc) (nI C) (na_v ar) (na_v mo) (na_v y) (na_v fo) (na_v nN) fa (na_v bd) (na_v bv) (na_v od) ly rY kd1 vl1 ou1 st aO1 aV1 cY oC1 → wY_step_23 post (nI m) (nI p) (nI e) (nI mM) (nI mS) (nI mI) (nI mc) (nI sc) 1 (nI lc) (nI C) (na_v ar) (na_v mo) (na_v y) (na_v fo) (na_v nN) fa (na_v bd) (na_v bv) (na_v od) ly rY kd vl ou st aO aV cY oC) :
    ∃ (mO' mA' st' ct' aO' aA' oC' ou' kd' vl' aV' cY' : Nat → Int32), mm_ok z C ba ly mO' mA' kd' vl' ∧ rg_ok z ba ct' cY' aO' aA' aV' oC' ∧ (∀ post : SX → Prop, post (0, 6, 7, nI mM, nI mS, nI mI, nI mc, nI sc, 1, nI lc, qc, nI C, na_v ar, na_v bd, na_v bv, na_v mo, na_v z, na_v fo, fa, fn, na_v od, po, wn, rt, qu, ba, pa, mO', mA', st', ct', aO', aA', oC', ou') → wX_step_57 post (nI m) (lk_mp ba m (nI p)) (nI e) a 0 6 7 (nI mM) (nI mS) (nI mI) (nI mc) (nI sc) 1 (nI lc) qc (nI C) (na_v ar) (na_v bd) (na_v bv) (na_v mo) (na_v z) (na_v fo) fa fn (na_v od) po wn rt qu ba pa mO mA st ct aO aA oC ou) ∧ (∀ post : SY → Prop, post (nI mM, nI mS, nI mI, nI mc, nI sc, 1, nI lc, nI C, na_v ar, na_v mo, na_v y, na_v fo, na_v nN, fa, na_v bd, na_v bv, na_v od, ly, rY, kd', vl', ou', st', aO', aV', cY', oC') → wY_step_23 post (nI m) (nI p) (nI e) (nI mM) (nI mS) (nI mI) (nI mc) (nI sc) 1 (nI lc) (nI C) (na_v ar) (na_v mo) (na_v y) (na_v fo) (na_v nN) fa (na_v bd) (na_v bv) (na_v od) ly rY kd vl ou st aO aV cY oC) := by
  obtain ⟨st', ct', cY', hr, hX, hY⟩ := sp_go (mI := mI) (mM := mM) (mS := mS) (mc := mc) (sc := sc) (lc := lc) (ar := ar) (bd := bd) (bv := bv) (mo := mo) (y := y) (fo := fo) (nN := nN) (od := od) (fa := fa) (fn := fn)
    (qc := qc) (po := po) (wn := wn) (rt := rt) (qu := qu) (pa := pa) (st := st) (ct := ct) (aO := aO1) (aA := aA1) (oC := oC1) (ou := ou1) (rY := rY) (aV := aV1) (cY := cY) hm hC hz hlo mm1 hpl h64 hF hl hzc
  refine ⟨mO1, mA1, st', ct', aO1, aA1, oC1, ou1, kd1, vl1, aV1, cY', mm1, hr _ _ _ _ rg1, fun post hp => h57 post ?_, fun post hp => hy post (hY post hp)⟩
  unfold wX_step_134
  refine hx _ ?_
  exact br_f (by decide) (hX _ hp)
/-! X: zero -/
theorem sp_xz {post : Int32 → Prop} (hm : m < 2) (hC : C ≤ 128) (hz : ∀ i, z i ≤ 8) (hlo : lo_ok z C ba ly) (hmm : mm_ok z C ba ly mO mA kd vl) (hrg : rg_ok z ba ct cY aO aA aV oC) (hpl : lk_pl z ba p) (h1 : ((aO m = 0 ∧ aV m = 0) ∨ (aO m = 7 ∧ aV m = -1)) → post 1) (h0 : ¬ ((aO m = 0 ∧ aV m = 0) ∨ (aO m = 7 ∧ aV m = -1)) → post 0) : wpX_accIsZero post (0, 6, 7, nI mM, nI mS, nI mI, nI mc, nI sc, 1, nI lc, qc, nI C, na_v ar, na_v bd, na_v bv, na_v mo, na_v z, na_v fo, fa, fn, na_v od, po, wn, rt, qu, ba, pa, mO, mA, st, ct, aO, aA, oC, ou) (nI m) := by
  have hin : vp_in (nI m) 2 := vp_in_nI hm (by decide)
  obtain ⟨_, ha, _⟩ := hrg m hm
  have ec : (nI m).toNatClampNeg = m := nI_clamp (by omega)
  rcases ha with ⟨e1, e2⟩ | ⟨e1, e2, e3⟩
  · refine ⟨hin, br_f (by rw [ec, e1]; decide) ⟨hin, br_c (fun h => h1 (Or.inl ⟨e1, ?_⟩)) (fun h => h0 (fun q => ?_))⟩⟩
    · rw [ec, e2] at h; exact h
    · rw [ec, e2] at h
      rcases q with q | q
      · exact h q.2
      · rw [e1] at q; exact absurd q.1 (by decide)
  · have hz0 : ¬ ((aO m = 0 ∧ aV m = 0) ∨ (aO m = 7 ∧ aV m = -1)) ↔ ¬ aV m = -1 := ⟨fun h q => h (Or.inr ⟨e1, q⟩), fun h q => by
      rcases q with q | q
      · rw [e1] at q; exact absurd q.1 (by decide)
      · exact h q.2⟩
    have h : m = 0 ∨ m = 1 := by omega
    rcases h with rfl | rfl
    · refine ⟨hin, br_t (by rw [ec, e1]) (br_f (by decide) ⟨hin, br_c (fun h => h1 (Or.inr ⟨e1, ?_⟩)) (fun h => h0 (hz0.mpr ?_))⟩)⟩
      · rw [ec, e3] at h
        rcases e2 with q | ⟨q, hq, eq⟩
        · exact q
        · obtain ⟨l1, l2, _⟩ := lo_pl (by omega) hlo hq
          rw [eq] at h
          have e5 : lk_mp ba 0 (nI q) = nI (lk_a ba q) := (if_neg (by decide)).trans (ad_l hq.1)
          rw [e5] at h
          exact absurd h (nI_ne0 l1 (by omega))
      · rw [ec, e3] at h
        intro q
        rw [q] at h
        exact h ((if_neg (by decide)).trans (if_pos rfl))
    · refine ⟨hin, br_t (by rw [ec, e1]) (br_t rfl ⟨hin, br_c (fun h => h1 (Or.inr ⟨e1, ?_⟩)) (fun h => h0 (hz0.mpr ?_))⟩)⟩
      · rw [ec, e3] at h; exact h
      · rw [ec, e3] at h; exact h
/-! Y: the chain -/
theorem sp_y190 {post : SY → Prop} {x2 x3 x4 x5 : Int32} (hm : m < 2) (hp : post (nI mM, nI mS, nI mI, nI mc, nI sc, 1, nI lc, nI C, na_v ar, na_v mo, na_v y, na_v fo, na_v nN, fa, na_v bd, na_v bv, na_v od, ly, rY, kd, vl, ou, upd st m 2, aO, aV, cY, oC)) : wY_step_190 post (nI m) x2 x3 x4 x5 (nI mM) (nI mS) (nI mI) (nI mc) (nI sc) 1 (nI lc) (nI C) (na_v ar) (na_v mo) (na_v y) (na_v fo) (na_v nN) fa (na_v bd) (na_v bv) (na_v od) ly rY kd vl ou st aO aV cY oC :=
  br_f (by decide) ⟨vp_in_nI hm (by decide), nm_r (na_uc (by omega)) hp⟩
theorem sp_y23 {post : SY → Prop} {e : Nat} (hm : m < 2) (hp : p < 128) (he : e < 16) (h0 : e ≠ 0) (h7 : e ≠ 7) (h6 : e ≠ 6) (h4 : e ≠ 4) (h5 : e ≠ 5) (h : wY_step_78 post (nI m) (nI p) (nI e) (vl (128 * m + p)) (nI mM) (nI mS) (nI mI) (nI mc) (nI sc) 1 (nI lc) (nI C) (na_v ar) (na_v mo) (na_v y) (na_v fo) (na_v nN) fa (na_v bd) (na_v bv) (na_v od) ly rY kd vl ou st aO aV cY oC) : wY_step_23 post (nI m) (nI p) (nI e) (nI mM) (nI mS) (nI mI) (nI mc) (nI sc) 1 (nI lc) (nI C) (na_v ar) (na_v mo) (na_v y) (na_v fo) (na_v nN) fa (na_v bd) (na_v bv) (na_v od) ly rY kd vl ou st aO aV cY oC := by
  refine br_f (sp_ne (b := 0) h0 (by omega) (by decide)) (br_f (sp_ne (b := 7) h7 (by omega) (by decide)) (br_f (sp_ne (b := 6) h6 (by omega) (by decide)) (br_f (sp_ne (b := 4) h4 (by omega) (by decide)) (br_f (sp_ne (b := 5) h5 (by omega) (by decide)) ⟨na_in (na_128 m p) (by omega) (by decide), ?_⟩))))
  rw [na_128, nI_clamp (by omega)]
  exact h
theorem sp_y57 {post : SY → Prop} {x2 x3 : Int32} (hm : m < 2) (h : wY_step_78 post (nI m) x2 x3 (aV m) (nI mM) (nI mS) (nI mI) (nI mc) (nI sc) 1 (nI lc) (nI C) (na_v ar) (na_v mo) (na_v y) (na_v fo) (na_v nN) fa (na_v bd) (na_v bv) (na_v od) ly rY kd vl ou st aO aV cY oC) : wY_step_57 post (nI m) x2 x3 (nI mM) (nI mS) (nI mI) (nI mc) (nI sc) 1 (nI lc) (nI C) (na_v ar) (na_v mo) (na_v y) (na_v fo) (na_v nN) fa (na_v bd) (na_v bv) (na_v od) ly rY kd vl ou st aO aV cY oC := by
  refine ⟨vp_in_nI hm (by decide), ?_⟩
  rw [nI_clamp (by omega)]
  exact h
theorem sp_y78 {post : SY → Prop} {e : Nat} {x2 v t : Int32} (he : e < 16) (h2 : e ≠ 2) (hk : ∀ post : Int32 → Prop, post t → wpY_kindAt post (nI mM, nI mS, nI mI, nI mc, nI sc, 1, nI lc, nI C, na_v ar, na_v mo, na_v y, na_v fo, na_v nN, fa, na_v bd, na_v bv, na_v od, ly, rY, kd, vl, ou, st, aO, aV, cY, oC) (nI m) v) (h : wY_step_114 post (nI m) x2 (nI e) v t (nI mM) (nI mS) (nI mI) (nI mc) (nI sc) 1 (nI lc) (nI C) (na_v ar) (na_v mo) (na_v y) (na_v fo) (na_v nN) fa (na_v bd) (na_v bv) (na_v od) ly rY kd vl ou st aO aV cY oC) : wY_step_78 post (nI m) x2 (nI e) v (nI mM) (nI mS) (nI mI) (nI mc) (nI sc) 1 (nI lc) (nI C) (na_v ar) (na_v mo) (na_v y) (na_v fo) (na_v nN) fa (na_v bd) (na_v bv) (na_v od) ly rY kd vl ou st aO aV cY oC := by
  unfold wY_step_78
  refine hk _ ?_
  exact br_f (sp_ne (b := 2) h2 (by omega) (by decide)) h
theorem sp_yd {post : SY → Prop} {e : Nat} {x2 v t : Int32} (he : e < 16) (h4 : e ≠ 4) (h5 : e ≠ 5) (h8 : e ≠ 8) (h9 : e ≠ 9) (h10 : e ≠ 10) (h11 : e ≠ 11) (h : wY_step_195 post (nI m) x2 (nI e) v t 0 (nI mM) (nI mS) (nI mI) (nI mc) (nI sc) 1 (nI lc) (nI C) (na_v ar) (na_v mo) (na_v y) (na_v fo) (na_v nN) fa (na_v bd) (na_v bv) (na_v od) ly rY kd vl ou st aO aV cY oC) : wY_step_114 post (nI m) x2 (nI e) v t (nI mM) (nI mS) (nI mI) (nI mc) (nI sc) 1 (nI lc) (nI C) (na_v ar) (na_v mo) (na_v y) (na_v fo) (na_v nN) fa (na_v bd) (na_v bv) (na_v od) ly rY kd vl ou st aO aV cY oC :=
  br_f (sp_ne (b := 4) h4 (by omega) (by decide)) (br_f (sp_ne (b := 5) h5 (by omega) (by decide)) (br_f (sp_ne (b := 4) h4 (by omega) (by decide)) (br_f (sp_ne (b := 8) h8 (by omega) (by decide)) (br_f (sp_ne (b := 9) h9 (by omega) (by decide)) (br_f (sp_ne (b := 10) h10 (by omega) (by decide)) (br_f (sp_ne (b := 11) h11 (by omega) (by decide)) h))))))
theorem sp_yz {post : SY → Prop} {e : Nat} {x2 v t : Int32} (hm : m < 2) (hC : C ≤ 128) (hz : ∀ i, z i ≤ 8) (hlo : lo_ok z C ba ly) (hmm : mm_ok z C ba ly mO mA kd vl) (hrg : rg_ok z ba ct cY aO aA aV oC) (hpl : lk_pl z ba p) (he : e < 16) (h3 : e ≠ 3) (h1 : ((aO m = 0 ∧ aV m = 0) ∨ (aO m = 7 ∧ aV m = -1)) → wY_step_267 post (nI m) x2 (nI e) v t 1 (nI mM) (nI mS) (nI mI) (nI mc) (nI sc) 1 (nI lc) (nI C) (na_v ar) (na_v mo) (na_v y) (na_v fo) (na_v nN) fa (na_v bd) (na_v bv) (na_v od) ly rY kd vl ou st aO aV cY oC) (h0 : ¬ ((aO m = 0 ∧ aV m = 0) ∨ (aO m = 7 ∧ aV m = -1)) → wY_step_267 post (nI m) x2 (nI e) v t 0 (nI mM) (nI mS) (nI mI) (nI mc) (nI sc) 1 (nI lc) (nI C) (na_v ar) (na_v mo) (na_v y) (na_v fo) (na_v nN) fa (na_v bd) (na_v bv) (na_v od) ly rY kd vl ou st aO aV cY oC) : wY_step_195 post (nI m) x2 (nI e) v t 0 (nI mM) (nI mS) (nI mI) (nI mc) (nI sc) 1 (nI lc) (nI C) (na_v ar) (na_v mo) (na_v y) (na_v fo) (na_v nN) fa (na_v bd) (na_v bv) (na_v od) ly rY kd vl ou st aO aV cY oC := by
  have hin : vp_in (nI m) 2 := vp_in_nI hm (by decide)
  obtain ⟨_, ha, _⟩ := hrg m hm
  have ec : (nI m).toNatClampNeg = m := nI_clamp (by omega)
  refine br_t rfl (br_f (sp_ne (b := 3) h3 (by omega) (by decide)) ⟨hin, ?_⟩)
  rw [ec]
  rcases ha with ⟨e1, e2⟩ | ⟨e1, e2, e3⟩
  · refine br_t e1 ⟨hin, ?_⟩
    refine br_c (fun h => h1 (Or.inl ⟨e1, h⟩)) (fun h => ⟨hin, br_f (by rw [ec, e1]; decide) (h0 (fun q => ?_))⟩)
    rcases q with q | q
    · exact h q.2
    · rw [e1] at q; exact absurd q.1 (by decide)
  · refine br_f (by rw [e1]; decide) ⟨hin, br_t (by rw [ec, e1]) ⟨hin, br_c (fun h => h1 (Or.inr ⟨e1, ?_⟩)) (fun h => h0 (fun q => ?_))⟩⟩
    · rw [ec] at h; exact h
    · rw [ec] at h
      rcases q with q | q
      · rw [e1] at q; exact absurd q.1 (by decide)
      · exact h q.2
/-- from the checks to the work, for what doesn't jump -/
theorem sp_yw {post : SY → Prop} {e : Nat} {x2 v t : Int32} (hm : m < 2) (hC : C ≤ 128) (hz : ∀ i, z i ≤ 8) (hlo : lo_ok z C ba ly) (hmm : mm_ok z C ba ly mO mA kd vl) (hrg : rg_ok z ba ct cY aO aA aV oC) (hpl : lk_pl z ba p) (he : e < 16) (h3 : e ≠ 3) (h5 : e ≠ 5) (h12 : e ≠ 12) (h13 : e = 13 → ¬ ((aO m = 0 ∧ aV m = 0) ∨ (aO m = 7 ∧ aV m = -1))) (h : wY_step_300 post (nI m) x2 (nI e) v t (nI mM) (nI mS) (nI mI) (nI mc) (nI sc) 1 (nI lc) (nI C) (na_v ar) (na_v mo) (na_v y) (na_v fo) (na_v nN) fa (na_v bd) (na_v bv) (na_v od) ly rY kd vl ou st aO aV cY oC) : wY_step_195 post (nI m) x2 (nI e) v t 0 (nI mM) (nI mS) (nI mI) (nI mc) (nI sc) 1 (nI lc) (nI C) (na_v ar) (na_v mo) (na_v y) (na_v fo) (na_v nN) fa (na_v bd) (na_v bv) (na_v od) ly rY kd vl ou st aO aV cY oC := by
  refine sp_yz hm hC hz hlo hmm hrg hpl he h3 (fun hZ => ?_) (fun hZ => ?_)
  · exact br_f (sp_ne (b := 5) h5 (by omega) (by decide)) (br_f (sp_ne (b := 12) h12 (by omega) (by decide)) (br_f (sp_ne (b := 13) (fun q => h13 q hZ) (by omega) (by decide)) h))
  · exact br_f (sp_ne (b := 5) h5 (by omega) (by decide)) (br_f (sp_ne (b := 12) h12 (by omega) (by decide)) (br_c (fun _ => br_t rfl h) (fun _ => h)))
/-! the cases -/
theorem sp_c0 {e : Nat} {a : Int32} (hm : m < 2) (hC : C ≤ 128) (hz : ∀ i, z i ≤ 8) (hlo : lo_ok z C ba ly) (hmm : mm_ok z C ba ly mO mA kd vl) (hrg : rg_ok z ba ct cY aO aA aV oC) (hpl : lk_pl z ba p) (he : e = 0 ∨ e = 7) : ∃ (mO' mA' st' ct' aO' aA' oC' ou' kd' vl' aV' cY' : Nat → Int32), mm_ok z C ba ly mO' mA' kd' vl' ∧ rg_ok z ba ct' cY' aO' aA' aV' oC' ∧ (∀ post : SX → Prop, post (0, 6, 7, nI mM, nI mS, nI mI, nI mc, nI sc, 1, nI lc, qc, nI C, na_v ar, na_v bd, na_v bv, na_v mo, na_v z, na_v fo, fa, fn, na_v od, po, wn, rt, qu, ba, pa, mO', mA', st', ct', aO', aA', oC', ou') → wX_step_57 post (nI m) (lk_mp ba m (nI p)) (nI e) a 0 6 7 (nI mM) (nI mS) (nI mI) (nI mc) (nI sc) 1 (nI lc) qc (nI C) (na_v ar) (na_v bd) (na_v bv) (na_v mo) (na_v z) (na_v fo) fa fn (na_v od) po wn rt qu ba pa mO mA st ct aO aA oC ou) ∧ (∀ post : SY → Prop, post (nI mM, nI mS, nI mI, nI mc, nI sc, 1, nI lc, nI C, na_v ar, na_v mo, na_v y, na_v fo, na_v nN, fa, na_v bd, na_v bv, na_v od, ly, rY, kd', vl', ou', st', aO', aV', cY', oC') → wY_step_23 post (nI m) (nI p) (nI e) (nI mM) (nI mS) (nI mI) (nI mc) (nI sc) 1 (nI lc) (nI C) (na_v ar) (na_v mo) (na_v y) (na_v fo) (na_v nN) fa (na_v bd) (na_v bv) (na_v od) ly rY kd vl ou st aO aV cY oC) := by
  have hin : vp_in (nI m) 2 := vp_in_nI hm (by decide)
  rcases he with rfl | rfl
  · exact sp_tr hm hC hz hlo hmm hrg hpl (fun post h => sp_57 (by decide) (by decide) (by decide) (by decide) (by decide) h) (fun post hp => br_t (by decide) hp) (fun post hp => br_t rfl ⟨hin, nm_r (na_uc (by omega)) hp⟩)
  · exact sp_tr hm hC hz hlo hmm hrg hpl (fun post h => sp_57 (by decide) (by decide) (by decide) (by decide) (by decide) h) (fun post hp => br_f (by decide) (br_f (by decide) (br_f (by decide) (br_f (by decide) (br_f (by decide) (br_f (by decide) (br_f (by decide) (br_f (by decide) (br_t rfl hp))))))))) (fun post hp => br_f (by decide) (br_t rfl ⟨hin, nm_r (na_uc (by omega)) hp⟩))
theorem sp_c1 {v : Int32} (hm : m < 2) (hC : C ≤ 128) (hz : ∀ i, z i ≤ 8) (hlo : lo_ok z C ba ly) (hmm : mm_ok z C ba ly mO mA kd vl) (hrg : rg_ok z ba ct cY aO aA aV oC) (hpl : lk_pl z ba p) (h64 : p < 64) (hF : fd_ok mM mS mI mc sc ar bd bv mo z y fo nN od fa fn) (hl : lc ≤ 8) (hzc : ∀ n, n < 8 → z (8 + n) = wi_cm bd bv od n lc) (hv : vl (128 * m + p) = v) : ∃ (mO' mA' st' ct' aO' aA' oC' ou' kd' vl' aV' cY' : Nat → Int32), mm_ok z C ba ly mO' mA' kd' vl' ∧ rg_ok z ba ct' cY' aO' aA' aV' oC' ∧ (∀ post : SX → Prop, post (0, 6, 7, nI mM, nI mS, nI mI, nI mc, nI sc, 1, nI lc, qc, nI C, na_v ar, na_v bd, na_v bv, na_v mo, na_v z, na_v fo, fa, fn, na_v od, po, wn, rt, qu, ba, pa, mO', mA', st', ct', aO', aA', oC', ou') → wX_step_57 post (nI m) (lk_mp ba m (nI p)) (nI 1) v 0 6 7 (nI mM) (nI mS) (nI mI) (nI mc) (nI sc) 1 (nI lc) qc (nI C) (na_v ar) (na_v bd) (na_v bv) (na_v mo) (na_v z) (na_v fo) fa fn (na_v od) po wn rt qu ba pa mO mA st ct aO aA oC ou) ∧ (∀ post : SY → Prop, post (nI mM, nI mS, nI mI, nI mc, nI sc, 1, nI lc, nI C, na_v ar, na_v mo, na_v y, na_v fo, na_v nN, fa, na_v bd, na_v bv, na_v od, ly, rY, kd', vl', ou', st', aO', aV', cY', oC') → wY_step_23 post (nI m) (nI p) (nI 1) (nI mM) (nI mS) (nI mI) (nI mc) (nI sc) 1 (nI lc) (nI C) (na_v ar) (na_v mo) (na_v y) (na_v fo) (na_v nN) fa (na_v bd) (na_v bv) (na_v od) ly rY kd vl ou st aO aV cY oC) := by
  have hin : vp_in (nI m) 2 := vp_in_nI hm (by decide)
  obtain ⟨t, ht⟩ := sp_ka (mM := mM) (mS := mS) (mI := mI) (mc := mc) (sc := sc) (lc := lc) (ar := ar) (bd := bd) (bv := bv) (mo := mo) (y := y) (fo := fo) (nN := nN) (od := od) (fa := fa) (oC := oC) (ou := ou) (ly := ly) (rY := rY) (kd := kd) (vl := vl) (st := st) (aO := aO) (aV := aV) (cY := cY) (C := C) hm v
  refine sp_ok (mO1 := mO) (mA1 := mA) (aO1 := upd aO m 0) (aA1 := upd aA m v) (oC1 := oC) (ou1 := ou) (kd1 := kd) (vl1 := vl) (aV1 := upd aV m v) hm hC hz hlo hmm hrg hpl h64 hF hl hzc (fun post h => sp_57 (by decide) (by decide) (by decide) (by decide) (by decide) h) hmm (rg_ac hrg (Or.inl ⟨rfl, rfl⟩))
    (fun post hp => br_f (by decide) (br_f (by decide) (br_t rfl ⟨hin, nm_r (na_uc (by omega)) ⟨hin, nm_r (na_uc (by omega)) hp⟩⟩))) (fun post hp => ?_)
  refine sp_y23 hm (by omega) (by decide) (by decide) (by decide) (by decide) (by decide) (by decide) ?_
  rw [hv]
  refine sp_y78 (by decide) (by decide) ht (sp_yd (by decide) (by decide) (by decide) (by decide) (by decide) (by decide) (by decide) (sp_yw hm hC hz hlo hmm hrg hpl (by decide) (by decide) (by decide) (by decide) (fun h => absurd h (by decide)) ?_))
  exact br_f (by decide) (br_t rfl ⟨hin, nm_r (na_uc (by omega)) ⟨hin, nm_r (na_uc (by omega)) (br_f (by decide) (br_f (by decide) (br_f (by decide) (br_f (by decide) (br_f (by decide) (br_f (by decide) hp))))))⟩⟩)
theorem sp_c3 {a : Int32} (hm : m < 2) (hC : C ≤ 128) (hz : ∀ i, z i ≤ 8) (hlo : lo_ok z C ba ly) (hmm : mm_ok z C ba ly mO mA kd vl) (hrg : rg_ok z ba ct cY aO aA aV oC) (hpl : lk_pl z ba p) : ∃ (mO' mA' st' ct' aO' aA' oC' ou' kd' vl' aV' cY' : Nat → Int32), mm_ok z C ba ly mO' mA' kd' vl' ∧ rg_ok z ba ct' cY' aO' aA' aV' oC' ∧ (∀ post : SX → Prop, post (0, 6, 7, nI mM, nI mS, nI mI, nI mc, nI sc, 1, nI lc, qc, nI C, na_v ar, na_v bd, na_v bv, na_v mo, na_v z, na_v fo, fa, fn, na_v od, po, wn, rt, qu, ba, pa, mO', mA', st', ct', aO', aA', oC', ou') → wX_step_57 post (nI m) (lk_mp ba m (nI p)) (nI 3) a 0 6 7 (nI mM) (nI mS) (nI mI) (nI mc) (nI sc) 1 (nI lc) qc (nI C) (na_v ar) (na_v bd) (na_v bv) (na_v mo) (na_v z) (na_v fo) fa fn (na_v od) po wn rt qu ba pa mO mA st ct aO aA oC ou) ∧ (∀ post : SY → Prop, post (nI mM, nI mS, nI mI, nI mc, nI sc, 1, nI lc, nI C, na_v ar, na_v mo, na_v y, na_v fo, na_v nN, fa, na_v bd, na_v bv, na_v od, ly, rY, kd', vl', ou', st', aO', aV', cY', oC') → wY_step_23 post (nI m) (nI p) (nI 3) (nI mM) (nI mS) (nI mI) (nI mc) (nI sc) 1 (nI lc) (nI C) (na_v ar) (na_v mo) (na_v y) (na_v fo) (na_v nN) fa (na_v bd) (na_v bv) (na_v od) ly rY kd vl ou st aO aV cY oC) := by
  have hin : vp_in (nI m) 2 := vp_in_nI hm (by decide)
  obtain ⟨t, ht⟩ := sp_ka (mM := mM) (mS := mS) (mI := mI) (mc := mc) (sc := sc) (lc := lc) (ar := ar) (bd := bd) (bv := bv) (mo := mo) (y := y) (fo := fo) (nN := nN) (od := od) (fa := fa) (oC := oC) (ou := ou) (ly := ly) (rY := rY) (kd := kd) (vl := vl) (st := st) (aO := aO) (aV := aV) (cY := cY) (C := C) hm (vl (128 * m + p))
  refine ⟨mO, mA, upd st m 1, ct, aO, aA, oC, ou, kd, vl, aV, cY, hmm, hrg, fun post hp => br_t rfl ⟨hin, nm_r (na_uc (by omega)) hp⟩, fun post hp => ?_⟩
  refine sp_y23 hm hpl.1 (by decide) (by decide) (by decide) (by decide) (by decide) (by decide) ?_
  refine sp_y78 (by decide) (by decide) ht (sp_yd (by decide) (by decide) (by decide) (by decide) (by decide) (by decide) (by decide) ?_)
  exact br_t rfl (br_t rfl ⟨hin, nm_r (na_uc (by omega)) hp⟩)
theorem sp_c14 {v : Int32} (hm : m < 2) (hC : C ≤ 128) (hz : ∀ i, z i ≤ 8) (hlo : lo_ok z C ba ly) (hmm : mm_ok z C ba ly mO mA kd vl) (hrg : rg_ok z ba ct cY aO aA aV oC) (hpl : lk_pl z ba p) (h64 : p < 64) (hF : fd_ok mM mS mI mc sc ar bd bv mo z y fo nN od fa fn) (hl : lc ≤ 8) (hzc : ∀ n, n < 8 → z (8 + n) = wi_cm bd bv od n lc) (hv : vl (128 * m + p) = v) (hok : lk_ok z ba v) : ∃ (mO' mA' st' ct' aO' aA' oC' ou' kd' vl' aV' cY' : Nat → Int32), mm_ok z C ba ly mO' mA' kd' vl' ∧ rg_ok z ba ct' cY' aO' aA' aV' oC' ∧ (∀ post : SX → Prop, post (0, 6, 7, nI mM, nI mS, nI mI, nI mc, nI sc, 1, nI lc, qc, nI C, na_v ar, na_v bd, na_v bv, na_v mo, na_v z, na_v fo, fa, fn, na_v od, po, wn, rt, qu, ba, pa, mO', mA', st', ct', aO', aA', oC', ou') → wX_step_57 post (nI m) (lk_mp ba m (nI p)) (nI 14) (lk_mp ba m v) 0 6 7 (nI mM) (nI mS) (nI mI) (nI mc) (nI sc) 1 (nI lc) qc (nI C) (na_v ar) (na_v bd) (na_v bv) (na_v mo) (na_v z) (na_v fo) fa fn (na_v od) po wn rt qu ba pa mO mA st ct aO aA oC ou) ∧ (∀ post : SY → Prop, post (nI mM, nI mS, nI mI, nI mc, nI sc, 1, nI lc, nI C, na_v ar, na_v mo, na_v y, na_v fo, na_v nN, fa, na_v bd, na_v bv, na_v od, ly, rY, kd', vl', ou', st', aO', aV', cY', oC') → wY_step_23 post (nI m) (nI p) (nI 14) (nI mM) (nI mS) (nI mI) (nI mc) (nI sc) 1 (nI lc) (nI C) (na_v ar) (na_v mo) (na_v y) (na_v fo) (na_v nN) fa (na_v bd) (na_v bv) (na_v od) ly rY kd vl ou st aO aV cY oC) := by
  have hin : vp_in (nI m) 2 := vp_in_nI hm (by decide)
  obtain ⟨t, ht⟩ := sp_ka (mM := mM) (mS := mS) (mI := mI) (mc := mc) (sc := sc) (lc := lc) (ar := ar) (bd := bd) (bv := bv) (mo := mo) (y := y) (fo := fo) (nN := nN) (od := od) (fa := fa) (oC := oC) (ou := ou) (ly := ly) (rY := rY) (kd := kd) (vl := vl) (st := st) (aO := aO) (aV := aV) (cY := cY) (C := C) hm v
  refine sp_ok (mO1 := mO) (mA1 := mA) (aO1 := upd aO m 7) (aA1 := upd aA m (lk_mp ba m v)) (oC1 := oC) (ou1 := ou) (kd1 := kd) (vl1 := vl) (aV1 := upd aV m v) hm hC hz hlo hmm hrg hpl h64 hF hl hzc (fun post h => sp_57 (by decide) (by decide) (by decide) (by decide) (by decide) h) hmm (rg_ac hrg (Or.inr ⟨rfl, hok, rfl⟩))
    (fun post hp => ?_) (fun post hp => ?_)
  · exact br_f (by decide) (br_f (by decide) (br_f (by decide) (br_f (by decide) (br_f (by decide) (br_f (by decide) (br_f (by decide) (br_f (by decide) (br_f (by decide) (br_f (by decide) (br_f (by decide) (br_f (by decide) (br_f (by decide) (br_f (by decide) (br_f (by decide) (br_t rfl ⟨hin, nm_r (na_uc (by omega)) ⟨hin, nm_r (na_uc (by omega)) hp⟩⟩)))))))))))))))
  refine sp_y23 hm (by omega) (by decide) (by decide) (by decide) (by decide) (by decide) (by decide) ?_
  rw [hv]
  refine sp_y78 (by decide) (by decide) ht (sp_yd (by decide) (by decide) (by decide) (by decide) (by decide) (by decide) (by decide) (sp_yw hm hC hz hlo hmm hrg hpl (by decide) (by decide) (by decide) (by decide) (fun h => absurd h (by decide)) ?_))
  exact br_f (by decide) (br_f (by decide) (br_t rfl ⟨hin, nm_r (na_uc (by omega)) ⟨hin, nm_r (na_uc (by omega)) (br_f (by decide) (br_f (by decide) (br_f (by decide) (br_f (by decide) (br_f (by decide) hp)))))⟩⟩))
theorem sp_c12 {v : Int32} (hm : m < 2) (hC : C ≤ 128) (hz : ∀ i, z i ≤ 8) (hlo : lo_ok z C ba ly) (hmm : mm_ok z C ba ly mO mA kd vl) (hrg : rg_ok z ba ct cY aO aA aV oC) (hpl : lk_pl z ba p) (hv : vl (128 * m + p) = v) (hok : lk_ok z ba v) : ∃ (mO' mA' st' ct' aO' aA' oC' ou' kd' vl' aV' cY' : Nat → Int32), mm_ok z C ba ly mO' mA' kd' vl' ∧ rg_ok z ba ct' cY' aO' aA' aV' oC' ∧ (∀ post : SX → Prop, post (0, 6, 7, nI mM, nI mS, nI mI, nI mc, nI sc, 1, nI lc, qc, nI C, na_v ar, na_v bd, na_v bv, na_v mo, na_v z, na_v fo, fa, fn, na_v od, po, wn, rt, qu, ba, pa, mO', mA', st', ct', aO', aA', oC', ou') → wX_step_57 post (nI m) (lk_mp ba m (nI p)) (nI 12) (lk_mp ba m v) 0 6 7 (nI mM) (nI mS) (nI mI) (nI mc) (nI sc) 1 (nI lc) qc (nI C) (na_v ar) (na_v bd) (na_v bv) (na_v mo) (na_v z) (na_v fo) fa fn (na_v od) po wn rt qu ba pa mO mA st ct aO aA oC ou) ∧ (∀ post : SY → Prop, post (nI mM, nI mS, nI mI, nI mc, nI sc, 1, nI lc, nI C, na_v ar, na_v mo, na_v y, na_v fo, na_v nN, fa, na_v bd, na_v bv, na_v od, ly, rY, kd', vl', ou', st', aO', aV', cY', oC') → wY_step_23 post (nI m) (nI p) (nI 12) (nI mM) (nI mS) (nI mI) (nI mc) (nI sc) 1 (nI lc) (nI C) (na_v ar) (na_v mo) (na_v y) (na_v fo) (na_v nN) fa (na_v bd) (na_v bv) (na_v od) ly rY kd vl ou st aO aV cY oC) := by
  have hin : vp_in (nI m) 2 := vp_in_nI hm (by decide)
  obtain ⟨t, ht⟩ := sp_ka (mM := mM) (mS := mS) (mI := mI) (mc := mc) (sc := sc) (lc := lc) (ar := ar) (bd := bd) (bv := bv) (mo := mo) (y := y) (fo := fo) (nN := nN) (od := od) (fa := fa) (oC := oC) (ou := ou) (ly := ly) (rY := rY) (kd := kd) (vl := vl) (st := st) (aO := aO) (aV := aV) (cY := cY) (C := C) hm v
  refine ⟨mO, mA, st, upd ct m (lk_mp ba m v), aO, aA, oC, ou, kd, vl, aV, upd cY m v, hmm, rg_ct hrg hok rfl, fun post hp => br_f (by decide) (br_f (by decide) (br_t rfl ⟨hin, nm_r (na_uc (by omega)) hp⟩)), fun post hp => ?_⟩
  refine sp_y23 hm hpl.1 (by decide) (by decide) (by decide) (by decide) (by decide) (by decide) ?_
  rw [hv]
  refine sp_y78 (by decide) (by decide) ht (sp_yd (by decide) (by decide) (by decide) (by decide) (by decide) (by decide) (by decide) (sp_yz hm hC hz hlo hmm hrg hpl (by decide) (by decide) (fun _ => ?_) (fun _ => ?_)))
  · exact br_f (by decide) (br_t rfl ⟨hin, nm_r (na_uc (by omega)) hp⟩)
  · exact br_f (by decide) (br_t rfl ⟨hin, nm_r (na_uc (by omega)) hp⟩)
theorem sp_c13 {v : Int32} (hm : m < 2) (hC : C ≤ 128) (hz : ∀ i, z i ≤ 8) (hlo : lo_ok z C ba ly) (hmm : mm_ok z C ba ly mO mA kd vl) (hrg : rg_ok z ba ct cY aO aA aV oC) (hpl : lk_pl z ba p) (h64 : p < 64) (hF : fd_ok mM mS mI mc sc ar bd bv mo z y fo nN od fa fn) (hl : lc ≤ 8) (hzc : ∀ n, n < 8 → z (8 + n) = wi_cm bd bv od n lc) (hv : vl (128 * m + p) = v) (hok : lk_ok z ba v) : ∃ (mO' mA' st' ct' aO' aA' oC' ou' kd' vl' aV' cY' : Nat → Int32), mm_ok z C ba ly mO' mA' kd' vl' ∧ rg_ok z ba ct' cY' aO' aA' aV' oC' ∧ (∀ post : SX → Prop, post (0, 6, 7, nI mM, nI mS, nI mI, nI mc, nI sc, 1, nI lc, qc, nI C, na_v ar, na_v bd, na_v bv, na_v mo, na_v z, na_v fo, fa, fn, na_v od, po, wn, rt, qu, ba, pa, mO', mA', st', ct', aO', aA', oC', ou') → wX_step_57 post (nI m) (lk_mp ba m (nI p)) (nI 13) (lk_mp ba m v) 0 6 7 (nI mM) (nI mS) (nI mI) (nI mc) (nI sc) 1 (nI lc) qc (nI C) (na_v ar) (na_v bd) (na_v bv) (na_v mo) (na_v z) (na_v fo) fa fn (na_v od) po wn rt qu ba pa mO mA st ct aO aA oC ou) ∧ (∀ post : SY → Prop, post (nI mM, nI mS, nI mI, nI mc, nI sc, 1, nI lc, nI C, na_v ar, na_v mo, na_v y, na_v fo, na_v nN, fa, na_v bd, na_v bv, na_v od, ly, rY, kd', vl', ou', st', aO', aV', cY', oC') → wY_step_23 post (nI m) (nI p) (nI 13) (nI mM) (nI mS) (nI mI) (nI mc) (nI sc) 1 (nI lc) (nI C) (na_v ar) (na_v mo) (na_v y) (na_v fo) (na_v nN) fa (na_v bd) (na_v bv) (na_v od) ly rY kd vl ou st aO aV cY oC) := by
  have hin : vp_in (nI m) 2 := vp_in_nI hm (by decide)
  obtain ⟨t, ht⟩ := sp_ka (mM := mM) (mS := mS) (mI := mI) (mc := mc) (sc := sc) (lc := lc) (ar := ar) (bd := bd) (bv := bv) (mo := mo) (y := y) (fo := fo) (nN := nN) (od := od) (fa := fa) (oC := oC) (ou := ou) (ly := ly) (rY := rY) (kd := kd) (vl := vl) (st := st) (aO := aO) (aV := aV) (cY := cY) (C := C) hm v
  by_cases hZ : ((aO m = 0 ∧ aV m = 0) ∨ (aO m = 7 ∧ aV m = -1))
  · refine ⟨mO, mA, st, upd ct m (lk_mp ba m v), aO, aA, oC, ou, kd, vl, aV, upd cY m v, hmm, rg_ct hrg hok rfl, fun post hp => br_f (by decide) (br_f (by decide) (br_f (by decide) (br_t rfl (sp_xz hm hC hz hlo hmm hrg hpl (fun _ => br_f (by decide) ⟨hin, nm_r (na_uc (by omega)) hp⟩) (fun h => absurd hZ h))))), fun post hp => ?_⟩
    refine sp_y23 hm hpl.1 (by decide) (by decide) (by decide) (by decide) (by decide) (by decide) ?_
    rw [hv]
    refine sp_y78 (by decide) (by decide) ht (sp_yd (by decide) (by decide) (by decide) (by decide) (by decide) (by decide) (by decide) (sp_yz hm hC hz hlo hmm hrg hpl (by decide) (by decide) (fun _ => ?_) (fun h => absurd hZ h)))
    exact br_f (by decide) (br_f (by decide) (br_t rfl (br_f (by decide) ⟨hin, nm_r (na_uc (by omega)) hp⟩)))
  · refine sp_ok (mO1 := mO) (mA1 := mA) (aO1 := aO) (aA1 := aA) (oC1 := oC) (ou1 := ou) (kd1 := kd) (vl1 := vl) (aV1 := aV) hm hC hz hlo hmm hrg hpl h64 hF hl hzc (fun post h => br_f (by decide) (br_f (by decide) (br_f (by decide) (br_t rfl (sp_xz hm hC hz hlo hmm hrg hpl (fun q => absurd q hZ) (fun _ => br_t rfl h)))))) hmm hrg
      (fun post hp => ?_) (fun post hp => ?_)
    · exact br_f (by decide) (br_f (by decide) (br_f (by decide) (br_f (by decide) (br_f (by decide) (br_f (by decide) (br_f (by decide) (br_f (by decide) (br_f (by decide) (br_f (by decide) (br_f (by decide) (br_f (by decide) (br_f (by decide) (br_f (by decide) (br_t rfl hp))))))))))))))
    refine sp_y23 hm (by omega) (by decide) (by decide) (by decide) (by decide) (by decide) (by decide) ?_
    rw [hv]
    refine sp_y78 (by decide) (by decide) ht (sp_yd (by decide) (by decide) (by decide) (by decide) (by decide) (by decide) (by decide) (sp_yw hm hC hz hlo hmm hrg hpl (by decide) (by decide) (by decide) (by decide) (fun _ => hZ) ?_))
    exact br_f (by decide) (br_f (by decide) (br_f (by decide) (br_f (by decide) (br_f (by decide) (br_f (by decide) (br_f (by decide) (br_f (by decide) hp)))))))
end
end
section
section
variable {mM mS mI mc sc lc : Nat} {ar bd bv mo z y fo nN od : Nat → Nat} {L qc cc cl : Int32} {fa fn po wn rt qu ba pa mO mA st ct aO aA oC ou ly rY kd vl aV cY : Nat → Int32}
variable {C m p : Nat}
/-! OUT -/
theorem sp_c2 {a : Int32} (hm : m < 2) (hC : C ≤ 128) (hz : ∀ i, z i ≤ 8) (hlo : lo_ok z C ba ly) (hmm : mm_ok z C ba ly mO mA kd vl) (hrg : rg_ok z ba ct cY aO aA aV oC) (hpl : lk_pl z ba p) (h64 : p < 64) (hF : fd_ok mM mS mI mc sc ar bd bv mo z y fo nN od fa fn) (hl : lc ≤ 8) (hzc : ∀ n, n < 8 → z (8 + n) = wi_cm bd bv od n lc) : ∃ (mO' mA' st' ct' aO' aA' oC' ou' kd' vl' aV' cY' : Nat → Int32), mm_ok z C ba ly mO' mA' kd' vl' ∧ rg_ok z ba ct' cY' aO' aA' aV' oC' ∧ (∀ post : SX → Prop, post (0, 6, 7, nI mM, nI mS, nI mI, nI mc, nI sc, 1, nI lc, qc, nI C, na_v ar, na_v bd, na_v bv, na_v mo, na_v z, na_v fo, fa, fn, na_v od, po, wn, rt, qu, ba, pa, mO', mA', st', ct', aO', aA', oC', ou') → wX_step_57 post (nI m) (lk_mp ba m (nI p)) (nI 2) a 0 6 7 (nI mM) (nI mS) (nI mI) (nI mc) (nI sc) 1 (nI lc) qc (nI C) (na_v ar) (na_v bd) (na_v bv) (na_v mo) (na_v z) (na_v fo) fa fn (na_v od) po wn rt qu ba pa mO mA st ct aO aA oC ou) ∧ (∀ post : SY → Prop, post (nI mM, nI mS, nI mI, nI mc, nI sc, 1, nI lc, nI C, na_v ar, na_v mo, na_v y, na_v fo, na_v nN, fa, na_v bd, na_v bv, na_v od, ly, rY, kd', vl', ou', st', aO', aV', cY', oC') → wY_step_23 post (nI m) (nI p) (nI 2) (nI mM) (nI mS) (nI mI) (nI mc) (nI sc) 1 (nI lc) (nI C) (na_v ar) (na_v mo) (na_v y) (na_v fo) (na_v nN) fa (na_v bd) (na_v bv) (na_v od) ly rY kd vl ou st aO aV cY oC) := by
  have hin : vp_in (nI m) 2 := vp_in_nI hm (by decide)
  have ec : (nI m).toNatClampNeg = m := nI_clamp (by omega)
  obtain ⟨t, ht⟩ := sp_ka (mM := mM) (mS := mS) (mI := mI) (mc := mc) (sc := sc) (lc := lc) (ar := ar) (bd := bd) (bv := bv) (mo := mo) (y := y) (fo := fo) (nN := nN) (od := od) (fa := fa) (oC := oC) (ou := ou) (ly := ly) (rY := rY) (kd := kd) (vl := vl) (st := st) (aO := aO) (aV := aV) (cY := cY) (C := C) hm (vl (128 * m + p))
  obtain ⟨_, ha, k, hk, ek⟩ := hrg m hm
  rcases ha with ⟨e1, e2⟩ | ⟨e1, e2, e3⟩
  · have c0 : aO (nI m).toNatClampNeg = 0 := by rw [ec, e1]
    by_cases h16 : k < 16
    · have q1 : oC (nI m).toNatClampNeg < 16 := by rw [ec, ek]; exact nI_lt (b := 16) h16 (by decide)
      have q2 : ¬ (16 : Int32) ≤ oC (nI m).toNatClampNeg := by rw [ec, ek]; exact nI_ge (b := 16) h16 (by decide)
      have ei : 16 * nI m + oC (nI m).toNatClampNeg = nI (16 * m + k) := by rw [ec, ek, na_16]
      have hi2 : vp_in (16 * nI m + oC (nI m).toNatClampNeg) 32 := na_in ei (by omega) (by decide)
      have eo : upd oC (nI m).toNatClampNeg (oC (nI m).toNatClampNeg + 1) = upd oC m (nI (k + 1)) := by rw [ec, ek, nI_1]
      have eu : upd ou (16 * nI m + oC (nI m).toNatClampNeg).toNatClampNeg (aA (nI m).toNatClampNeg) = upd ou (16 * m + k) (aV m) := by rw [ei, nI_clamp (by omega), ec, e2]
      have ev : upd ou (16 * nI m + oC (nI m).toNatClampNeg).toNatClampNeg (aV (nI m).toNatClampNeg) = upd ou (16 * m + k) (aV m) := by rw [ei, nI_clamp (by omega), ec]
      refine sp_ok (mO1 := mO) (mA1 := mA) (aO1 := aO) (aA1 := aA) (oC1 := upd oC m (nI (k + 1))) (ou1 := upd ou (16 * m + k) (aV m)) (kd1 := kd) (vl1 := vl) (aV1 := aV) hm hC hz hlo hmm hrg hpl h64 hF hl hzc (fun post h => sp_57 (by decide) (by decide) (by decide) (by decide) (by decide) h) hmm (rg_oc hrg (by omega))
        (fun post hp => ?_) (fun post hp => ?_)
      · refine br_f (by decide) (br_f (by decide) (br_f (by decide) (br_t rfl ⟨hin, br_t c0 ⟨hin, br_t q1 ⟨hin, hin, hi2, nm_r eu ⟨hin, hin, nm_r eo ?_⟩⟩⟩⟩)))
        exact ⟨rfl, hp⟩
      refine sp_y23 hm (by omega) (by decide) (by decide) (by decide) (by decide) (by decide) (by decide) ?_
      unfold wY_step_78
      refine ht _ (br_t rfl ⟨hin, br_t c0 ⟨hin, br_f q2 ?_⟩⟩)
      refine sp_yd (by decide) (by decide) (by decide) (by decide) (by decide) (by decide) (by decide) (sp_yw hm hC hz hlo hmm hrg hpl (by decide) (by decide) (by decide) (by decide) (fun h => absurd h (by decide)) ?_)
      exact br_t rfl ⟨hin, hin, hi2, nm_r ev ⟨hin, hin, nm_r eo (br_f (by decide) (br_f (by decide) (br_f (by decide) (br_f (by decide) (br_f (by decide) (br_f (by decide) (br_f (by decide) (hp))))))))⟩⟩
    · have q1 : ¬ oC (nI m).toNatClampNeg < 16 := by rw [ec, ek]; exact nI_nlt (b := 16) (by omega) (by omega)
      have q2 : (16 : Int32) ≤ oC (nI m).toNatClampNeg := by rw [ec, ek]; exact nI_le (a := 16) (by omega) (by omega)
      refine sp_tr hm hC hz hlo hmm hrg hpl (fun post h => sp_57 (by decide) (by decide) (by decide) (by decide) (by decide) h) (fun post hp => ?_) (fun post hp => ?_)
      · refine br_f (by decide) (br_f (by decide) (br_f (by decide) (br_t rfl ⟨hin, br_t c0 ⟨hin, br_f q1 ?_⟩⟩)))
        exact ⟨rfl, hp⟩
      refine sp_y23 hm (by omega) (by decide) (by decide) (by decide) (by decide) (by decide) (by decide) ?_
      unfold wY_step_78
      exact ht _ (br_t rfl ⟨hin, br_t c0 ⟨hin, br_t q2 (sp_y190 hm hp)⟩⟩)
  · have c0 : ¬ aO (nI m).toNatClampNeg = 0 := by rw [ec, e1]; decide
    refine sp_tr hm hC hz hlo hmm hrg hpl (fun post h => sp_57 (by decide) (by decide) (by decide) (by decide) (by decide) h) (fun post hp => ?_) (fun post hp => ?_)
    · refine br_f (by decide) (br_f (by decide) (br_f (by decide) (br_t rfl ⟨hin, br_f c0 ?_⟩)))
      exact ⟨rfl, hp⟩
    refine sp_y23 hm (by omega) (by decide) (by decide) (by decide) (by decide) (by decide) (by decide) ?_
    unfold wY_step_78
    exact ht _ (br_t rfl ⟨hin, br_f c0 (sp_y190 hm hp)⟩)
/-! GOTO -/
theorem sp_c5 {a : Int32} (hm : m < 2) (hC : C ≤ 128) (hz : ∀ i, z i ≤ 8) (hlo : lo_ok z C ba ly) (hmm : mm_ok z C ba ly mO mA kd vl) (hrg : rg_ok z ba ct cY aO aA aV oC) (hpl : lk_pl z ba p) : ∃ (mO' mA' st' ct' aO' aA' oC' ou' kd' vl' aV' cY' : Nat → Int32), mm_ok z C ba ly mO' mA' kd' vl' ∧ rg_ok z ba ct' cY' aO' aA' aV' oC' ∧ (∀ post : SX → Prop, post (0, 6, 7, nI mM, nI mS, nI mI, nI mc, nI sc, 1, nI lc, qc, nI C, na_v ar, na_v bd, na_v bv, na_v mo, na_v z, na_v fo, fa, fn, na_v od, po, wn, rt, qu, ba, pa, mO', mA', st', ct', aO', aA', oC', ou') → wX_step_57 post (nI m) (lk_mp ba m (nI p)) (nI 5) a 0 6 7 (nI mM) (nI mS) (nI mI) (nI mc) (nI sc) 1 (nI lc) qc (nI C) (na_v ar) (na_v bd) (na_v bv) (na_v mo) (na_v z) (na_v fo) fa fn (na_v od) po wn rt qu ba pa mO mA st ct aO aA oC ou) ∧ (∀ post : SY → Prop, post (nI mM, nI mS, nI mI, nI mc, nI sc, 1, nI lc, nI C, na_v ar, na_v mo, na_v y, na_v fo, na_v nN, fa, na_v bd, na_v bv, na_v od, ly, rY, kd', vl', ou', st', aO', aV', cY', oC') → wY_step_23 post (nI m) (nI p) (nI 5) (nI mM) (nI mS) (nI mI) (nI mc) (nI sc) 1 (nI lc) (nI C) (na_v ar) (na_v mo) (na_v y) (na_v fo) (na_v nN) fa (na_v bd) (na_v bv) (na_v od) ly rY kd vl ou st aO aV cY oC) := by
  have hin : vp_in (nI m) 2 := vp_in_nI hm (by decide)
  have ec : (nI m).toNatClampNeg = m := nI_clamp (by omega)
  obtain ⟨t, ht⟩ := sp_ka (mM := mM) (mS := mS) (mI := mI) (mc := mc) (sc := sc) (lc := lc) (ar := ar) (bd := bd) (bv := bv) (mo := mo) (y := y) (fo := fo) (nN := nN) (od := od) (fa := fa) (oC := oC) (ou := ou) (ly := ly) (rY := rY) (kd := kd) (vl := vl) (st := st) (aO := aO) (aV := aV) (cY := cY) (C := C) hm (aV m)
  obtain ⟨_, ha, _⟩ := hrg m hm
  rcases ha with ⟨e1, e2⟩ | ⟨e1, e2, e3⟩
  · have c7 : ¬ aO (nI m).toNatClampNeg = 7 := by rw [ec, e1]; decide
    refine sp_tr hm hC hz hlo hmm hrg hpl (fun post h => br_f (by decide) (br_t rfl ⟨hin, br_f c7 (br_f (by decide) (br_f (by decide) h))⟩)) (fun post hp => ?_) (fun post hp => ?_)
    · exact br_f (by decide) (br_f (by decide) (br_f (by decide) (br_f (by decide) (br_f (by decide) (br_f (by decide) (br_t rfl hp))))))
    refine br_f (by decide) (br_f (by decide) (br_f (by decide) (br_f (by decide) (br_t rfl (sp_y57 hm (sp_y78 (by decide) (by decide) ht ?_))))))
    exact br_f (by decide) (br_t rfl ⟨hin, br_f c7 (sp_y190 hm hp)⟩)
  · have c7 : aO (nI m).toNatClampNeg = 7 := by rw [ec, e1]
    refine ⟨mO, mA, st, upd ct m (aA m), aO, aA, oC, ou, kd, vl, aV, upd cY m (aV m), hmm, rg_ct hrg e2 e3, fun post hp => ?_, fun post hp => ?_⟩
    · exact br_f (by decide) (br_t rfl ⟨hin, br_t c7 ⟨hin, hin, nm_r (e' := upd ct m (aA m)) (by rw [ec]) hp⟩⟩)
    refine br_f (by decide) (br_f (by decide) (br_f (by decide) (br_f (by decide) (br_t rfl (sp_y57 hm (sp_y78 (by decide) (by decide) ht ?_))))))
    refine br_f (by decide) (br_t rfl ⟨hin, br_t c7 (br_f (by decide) (br_f (by decide) (br_f (by decide) (br_f (by decide) (br_f (by decide) (sp_yz hm hC hz hlo hmm hrg hpl (by decide) (by decide) (fun _ => ?_) (fun _ => ?_)))))))⟩)
    · exact br_t rfl ⟨hin, nm_r (na_uc (by omega)) hp⟩
    · exact br_t rfl ⟨hin, nm_r (na_uc (by omega)) hp⟩
/-! loads -/
theorem sp_xl {post : Int32 → SX → Prop} {q c : Nat} (hm : m < 2) (hC : C ≤ 128) (hz : ∀ i, z i ≤ 8) (hlo : lo_ok z C ba ly) (hmm : mm_ok z C ba ly mO mA kd vl) (hrg : rg_ok z ba ct cY aO aA aV oC) (hpl : lk_pl z ba p) (hq : lk_pl z ba q) (hc : mO (lk_ix ba m q) = nI c) (h07 : c = 0 ∨ c = 7) (hp : post 1 (0, 6, 7, nI mM, nI mS, nI mI, nI mc, nI sc, 1, nI lc, qc, nI C, na_v ar, na_v bd, na_v bv, na_v mo, na_v z, na_v fo, fa, fn, na_v od, po, wn, rt, qu, ba, pa, mO, mA, st, ct, upd aO m (nI c), upd aA m (mA (lk_ix ba m q)), oC, ou)) : wpX_loadFrom post (0, 6, 7, nI mM, nI mS, nI mI, nI mc, nI sc, 1, nI lc, qc, nI C, na_v ar, na_v bd, na_v bv, na_v mo, na_v z, na_v fo, fa, fn, na_v od, po, wn, rt, qu, ba, pa, mO, mA, st, ct, aO, aA, oC, ou) (nI m) (lk_mp ba m (nI q)) := by
  have hin : vp_in (nI m) 2 := vp_in_nI hm (by decide)
  obtain ⟨l, h1, h2, h3, _, _⟩ := sp_loc hm hC hlo hq
  unfold wpX_loadFrom
  refine sp_op hm hC hz hlo hmm hq hc ?_
  rw [h2]
  have ei : mA (128 * nI m + nI l).toNatClampNeg = mA (lk_ix ba m q) := by rw [na_128, nI_clamp (by omega), h3]
  have hi2 : vp_in (128 * nI m + nI l) 256 := na_in (na_128 m l) (by omega) (by decide)
  rcases h07 with rfl | rfl
  · exact br_t rfl ⟨hi2, hin, nm_r (na_uc (by omega)) ⟨hin, nm_r (e' := upd aA m (mA (lk_ix ba m q))) (by rw [ei, nI_clamp (by omega)]) hp⟩⟩
  · exact br_f (by decide) (br_t rfl ⟨hi2, hin, nm_r (na_uc (by omega)) ⟨hin, nm_r (e' := upd aA m (mA (lk_ix ba m q))) (by rw [ei, nI_clamp (by omega)]) hp⟩⟩)
theorem sp_xl0 {post : Int32 → SX → Prop} {q c : Nat} (hm : m < 2) (hC : C ≤ 128) (hz : ∀ i, z i ≤ 8) (hlo : lo_ok z C ba ly) (hmm : mm_ok z C ba ly mO mA kd vl) (hrg : rg_ok z ba ct cY aO aA aV oC) (hpl : lk_pl z ba p) (hq : lk_pl z ba q) (hc : mO (lk_ix ba m q) = nI c) (hc22 : c ≤ 22) (h0 : c ≠ 0) (h7 : c ≠ 7) (hp : post 0 (0, 6, 7, nI mM, nI mS, nI mI, nI mc, nI sc, 1, nI lc, qc, nI C, na_v ar, na_v bd, na_v bv, na_v mo, na_v z, na_v fo, fa, fn, na_v od, po, wn, rt, qu, ba, pa, mO, mA, st, ct, aO, aA, oC, ou)) : wpX_loadFrom post (0, 6, 7, nI mM, nI mS, nI mI, nI mc, nI sc, 1, nI lc, qc, nI C, na_v ar, na_v bd, na_v bv, na_v mo, na_v z, na_v fo, fa, fn, na_v od, po, wn, rt, qu, ba, pa, mO, mA, st, ct, aO, aA, oC, ou) (nI m) (lk_mp ba m (nI q)) := by
  unfold wpX_loadFrom
  refine sp_op hm hC hz hlo hmm hq hc ?_
  exact br_f (sp_ne (b := 0) h0 (by omega) (by decide)) (br_f (sp_ne (b := 7) h7 (by omega) (by decide)) hp)
theorem sp_xln {post : Int32 → SX → Prop} (hm : m < 2) (hC : C ≤ 128) (hz : ∀ i, z i ≤ 8) (hlo : lo_ok z C ba ly) (hmm : mm_ok z C ba ly mO mA kd vl) (hrg : rg_ok z ba ct cY aO aA aV oC) (hpl : lk_pl z ba p) (hp : post 0 (0, 6, 7, nI mM, nI mS, nI mI, nI mc, nI sc, 1, nI lc, qc, nI C, na_v ar, na_v bd, na_v bv, na_v mo, na_v z, na_v fo, fa, fn, na_v od, po, wn, rt, qu, ba, pa, mO, mA, st, ct, aO, aA, oC, ou)) : wpX_loadFrom post (0, 6, 7, nI mM, nI mS, nI mI, nI mc, nI sc, 1, nI lc, qc, nI C, na_v ar, na_v bd, na_v bv, na_v mo, na_v z, na_v fo, fa, fn, na_v od, po, wn, rt, qu, ba, pa, mO, mA, st, ct, aO, aA, oC, ou) (nI m) (lk_mp ba m (-1)) := by
  unfold wpX_loadFrom
  refine sp_on hm hC hz hlo hmm ?_
  exact br_f (by decide) (br_f (by decide) hp)
/-- the outcome of a load from v: one for both -/
theorem sp_ld {v : Int32} (hm : m < 2) (hC : C ≤ 128) (hz : ∀ i, z i ≤ 8) (hlo : lo_ok z C ba ly) (hmm : mm_ok z C ba ly mO mA kd vl) (hrg : rg_ok z ba ct cY aO aA aV oC) (hpl : lk_pl z ba p) (hok : lk_ok z ba v) :
    ((∀ post : Int32 → SX → Prop, post 0 (0, 6, 7, nI mM, nI mS, nI mI, nI mc, nI sc, 1, nI lc, qc, nI C, na_v ar, na_v bd, na_v bv, na_v mo, na_v z, na_v fo, fa, fn, na_v od, po, wn, rt, qu, ba, pa, mO, mA, st, ct, aO, aA, oC, ou) → wpX_loadFrom post (0, 6, 7, nI mM, nI mS, nI mI, nI mc, nI sc, 1, nI lc, qc, nI C, na_v ar, na_v bd, na_v bv, na_v mo, na_v z, na_v fo, fa, fn, na_v od, po, wn, rt, qu, ba, pa, mO, mA, st, ct, aO, aA, oC, ou) (nI m) (lk_mp ba m v)) ∧ ∃ t : Nat, t ≠ 0 ∧ t ≠ 7 ∧ t ≤ 22 ∧ ∀ post : Int32 → Prop, post (nI t) → wpY_kindAt post (nI mM, nI mS, nI mI, nI mc, nI sc, 1, nI lc, nI C, na_v ar, na_v mo, na_v y, na_v fo, na_v nN, fa, na_v bd, na_v bv, na_v od, ly, rY, kd, vl, ou, st, aO, aV, cY, oC) (nI m) v) ∨
    (∃ q t w, v = nI q ∧ q < 128 ∧ vl (128 * m + q) = w ∧ (t = 0 ∨ t = 7) ∧ (∀ post : Int32 → Prop, post (nI t) → wpY_kindAt post (nI mM, nI mS, nI mI, nI mc, nI sc, 1, nI lc, nI C, na_v ar, na_v mo, na_v y, na_v fo, na_v nN, fa, na_v bd, na_v bv, na_v od, ly, rY, kd, vl, ou, st, aO, aV, cY, oC) (nI m) v) ∧ ∃ a, rg_ok z ba ct cY (upd aO m (nI t)) (upd aA m a) (upd aV m w) oC ∧
      (∀ post : Int32 → SX → Prop, post 1 (0, 6, 7, nI mM, nI mS, nI mI, nI mc, nI sc, 1, nI lc, qc, nI C, na_v ar, na_v bd, na_v bv, na_v mo, na_v z, na_v fo, fa, fn, na_v od, po, wn, rt, qu, ba, pa, mO, mA, st, ct, upd aO m (nI t), upd aA m a, oC, ou) → wpX_loadFrom post (0, 6, 7, nI mM, nI mS, nI mI, nI mc, nI sc, 1, nI lc, qc, nI C, na_v ar, na_v bd, na_v bv, na_v mo, na_v z, na_v fo, fa, fn, na_v od, po, wn, rt, qu, ba, pa, mO, mA, st, ct, aO, aA, oC, ou) (nI m) (lk_mp ba m v))) := by
  rcases hok with rfl | ⟨q, hq, rfl⟩
  · exact Or.inl ⟨fun post hp => sp_xln hm hC hz hlo hmm hrg hpl hp, 6, by decide, by decide, by decide, fun post hp => sp_kn hp⟩
  · have q1 := hq.1
    obtain ⟨c, e1, e2, hop, _, h7, h7'⟩ := hmm.2 q hq m hm
    have hc : c ≤ 22 := by unfold fd_op at hop; omega
    have hk : ∀ post : Int32 → Prop, post (nI c) → wpY_kindAt post (nI mM, nI mS, nI mI, nI mc, nI sc, 1, nI lc, nI C, na_v ar, na_v mo, na_v y, na_v fo, na_v nN, fa, na_v bd, na_v bv, na_v od, ly, rY, kd, vl, ou, st, aO, aV, cY, oC) (nI m) (nI q) := fun post hp => sp_kd hm q1 (by rw [e1]; exact hp)
    by_cases h07 : c = 0 ∨ c = 7
    · refine Or.inr ⟨q, c, _, rfl, q1, rfl, h07, hk, mA (lk_ix ba m q), rg_ac hrg ?_, fun post hp => sp_xl hm hC hz hlo hmm hrg hpl hq e2 h07 hp⟩
      rcases h07 with rfl | rfl
      · exact Or.inl ⟨rfl, h7 (by decide)⟩
      · obtain ⟨a1, a2⟩ := h7' (by decide)
        rw [if_neg (by omega)] at a2
        exact Or.inr ⟨rfl, a1, a2⟩
    · exact Or.inl ⟨fun post hp => sp_xl0 hm hC hz hlo hmm hrg hpl hq e2 hc (fun e => h07 (Or.inl e)) (fun e => h07 (Or.inr e)) hp, c, fun e => h07 (Or.inl e), fun e => h07 (Or.inr e), hc, hk⟩
/-- Y's check of the target: 152 -/
theorem sp_y152 {post : SY → Prop} {t : Nat} {x2 x3 x4 : Int32} (h07 : t = 0 ∨ t = 7) (h : wY_step_164 post (nI m) x2 x3 x4 (nI t) (nI mM) (nI mS) (nI mI) (nI mc) (nI sc) 1 (nI lc) (nI C) (na_v ar) (na_v mo) (na_v y) (na_v fo) (na_v nN) fa (na_v bd) (na_v bv) (na_v od) ly rY kd vl ou st aO aV cY oC) : wY_step_152 post (nI m) x2 x3 x4 (nI t) (nI mM) (nI mS) (nI mI) (nI mc) (nI sc) 1 (nI lc) (nI C) (na_v ar) (na_v mo) (na_v y) (na_v fo) (na_v nN) fa (na_v bd) (na_v bv) (na_v od) ly rY kd vl ou st aO aV cY oC := by
  rcases h07 with rfl | rfl
  · exact br_t rfl h
  · exact br_f (by decide) (br_t rfl h)
theorem sp_y15n {post : SY → Prop} {t : Nat} {x2 x3 x4 : Int32} (ht : t ≤ 22) (h0 : t ≠ 0) (h7 : t ≠ 7) (h : wY_step_190 post (nI m) x2 x3 x4 (nI t) (nI mM) (nI mS) (nI mI) (nI mc) (nI sc) 1 (nI lc) (nI C) (na_v ar) (na_v mo) (na_v y) (na_v fo) (na_v nN) fa (na_v bd) (na_v bv) (na_v od) ly rY kd vl ou st aO aV cY oC) : wY_step_152 post (nI m) x2 x3 x4 (nI t) (nI mM) (nI mS) (nI mI) (nI mc) (nI sc) 1 (nI lc) (nI C) (na_v ar) (na_v mo) (na_v y) (na_v fo) (na_v nN) fa (na_v bd) (na_v bv) (na_v od) ly rY kd vl ou st aO aV cY oC :=
  br_f (sp_ne (b := 0) h0 (by omega) (by decide)) (br_f (sp_ne (b := 7) h7 (by omega) (by decide)) h)
theorem sp_y390 {post : SY → Prop} {q : Nat} {x2 x3 t w : Int32} (hm : m < 2) (hq : q < 128) (hw : vl (128 * m + q) = w) (h : wY_step_417 post (nI m) x2 x3 (nI q) (nI mM) (nI mS) (nI mI) (nI mc) (nI sc) 1 (nI lc) (nI C) (na_v ar) (na_v mo) (na_v y) (na_v fo) (na_v nN) fa (na_v bd) (na_v bv) (na_v od) ly rY kd vl ou st (upd aO m t) (upd aV m w) cY oC) : wY_step_390 post (nI m) x2 x3 (nI q) t (nI mM) (nI mS) (nI mI) (nI mc) (nI sc) 1 (nI lc) (nI C) (na_v ar) (na_v mo) (na_v y) (na_v fo) (na_v nN) fa (na_v bd) (na_v bv) (na_v od) ly rY kd vl ou st aO aV cY oC :=
  ⟨vp_in_nI hm (by decide), nm_r (na_uc (by omega)) ⟨na_in (na_128 m q) (by omega) (by decide), vp_in_nI hm (by decide), nm_r (e' := upd aV m w) (by rw [na_128, nI_clamp (by omega), nI_clamp (by omega), hw]) h⟩⟩
theorem sp_c8 {v : Int32} (hm : m < 2) (hC : C ≤ 128) (hz : ∀ i, z i ≤ 8) (hlo : lo_ok z C ba ly) (hmm : mm_ok z C ba ly mO mA kd vl) (hrg : rg_ok z ba ct cY aO aA aV oC) (hpl : lk_pl z ba p) (h64 : p < 64) (hF : fd_ok mM mS mI mc sc ar bd bv mo z y fo nN od fa fn) (hl : lc ≤ 8) (hzc : ∀ n, n < 8 → z (8 + n) = wi_cm bd bv od n lc) (hv : vl (128 * m + p) = v) (hok : lk_ok z ba v) : ∃ (mO' mA' st' ct' aO' aA' oC' ou' kd' vl' aV' cY' : Nat → Int32), mm_ok z C ba ly mO' mA' kd' vl' ∧ rg_ok z ba ct' cY' aO' aA' aV' oC' ∧ (∀ post : SX → Prop, post (0, 6, 7, nI mM, nI mS, nI mI, nI mc, nI sc, 1, nI lc, qc, nI C, na_v ar, na_v bd, na_v bv, na_v mo, na_v z, na_v fo, fa, fn, na_v od, po, wn, rt, qu, ba, pa, mO', mA', st', ct', aO', aA', oC', ou') → wX_step_57 post (nI m) (lk_mp ba m (nI p)) (nI 8) (lk_mp ba m v) 0 6 7 (nI mM) (nI mS) (nI mI) (nI mc) (nI sc) 1 (nI lc) qc (nI C) (na_v ar) (na_v bd) (na_v bv) (na_v mo) (na_v z) (na_v fo) fa fn (na_v od) po wn rt qu ba pa mO mA st ct aO aA oC ou) ∧ (∀ post : SY → Prop, post (nI mM, nI mS, nI mI, nI mc, nI sc, 1, nI lc, nI C, na_v ar, na_v mo, na_v y, na_v fo, na_v nN, fa, na_v bd, na_v bv, na_v od, ly, rY, kd', vl', ou', st', aO', aV', cY', oC') → wY_step_23 post (nI m) (nI p) (nI 8) (nI mM) (nI mS) (nI mI) (nI mc) (nI sc) 1 (nI lc) (nI C) (na_v ar) (na_v mo) (na_v y) (na_v fo) (na_v nN) fa (na_v bd) (na_v bv) (na_v od) ly rY kd vl ou st aO aV cY oC) := by
  have hin : vp_in (nI m) 2 := vp_in_nI hm (by decide)
  rcases sp_ld (mM := mM) (mS := mS) (mI := mI) (mc := mc) (sc := sc) (lc := lc) (ar := ar) (bd := bd) (bv := bv) (mo := mo) (y := y) (fo := fo) (nN := nN) (od := od) (fa := fa) (fn := fn) (qc := qc) (po := po) (wn := wn) (rt := rt) (qu := qu) (pa := pa) (ou := ou) (rY := rY) (st := st) (v := v) hm hC hz hlo hmm hrg hpl hok with ⟨hX, t, t0, t7, t22, hk⟩ | ⟨q, t, w, rfl, hq, hw, h07, hk, a, hr, hX⟩
  · refine sp_tr hm hC hz hlo hmm hrg hpl (fun post h => sp_57 (by decide) (by decide) (by decide) (by decide) (by decide) h) (fun post hp => ?_) (fun post hp => ?_)
    · refine br_f (by decide) (br_f (by decide) (br_f (by decide) (br_f (by decide) (br_f (by decide) (br_f (by decide) (br_f (by decide) (br_f (by decide) (br_f (by decide) (br_t rfl ?_)))))))))
      exact hX _ ⟨rfl, hp⟩
    refine sp_y23 hm (by omega) (by decide) (by decide) (by decide) (by decide) (by decide) (by decide) ?_
    rw [hv]
    refine sp_y78 (by decide) (by decide) hk ?_
    exact br_f (by decide) (br_f (by decide) (br_f (by decide) (br_t rfl (sp_y15n t22 t0 t7 (sp_y190 hm hp)))))
  · refine sp_ok (mO1 := mO) (mA1 := mA) (aO1 := upd aO m (nI t)) (aA1 := upd aA m a) (oC1 := oC) (ou1 := ou) (kd1 := kd) (vl1 := vl) (aV1 := upd aV m w) hm hC hz hlo hmm hrg hpl h64 hF hl hzc (fun post h => sp_57 (by decide) (by decide) (by decide) (by decide) (by decide) h) hmm hr
      (fun post hp => ?_) (fun post hp => ?_)
    · refine br_f (by decide) (br_f (by decide) (br_f (by decide) (br_f (by decide) (br_f (by decide) (br_f (by decide) (br_f (by decide) (br_f (by decide) (br_f (by decide) (br_t rfl ?_)))))))))
      exact hX _ ⟨rfl, hp⟩
    refine sp_y23 hm (by omega) (by decide) (by decide) (by decide) (by decide) (by decide) (by decide) ?_
    rw [hv]
    refine sp_y78 (by decide) (by decide) hk ?_
    refine br_f (by decide) (br_f (by decide) (br_f (by decide) (br_t rfl (sp_y152 h07 (br_f (by decide) (br_f (by decide) (sp_yw hm hC hz hlo hmm hrg hpl (by decide) (by decide) (by decide) (by decide) (fun h => absurd h (by decide)) ?_)))))))
    exact br_f (by decide) (br_f (by decide) (br_f (by decide) (br_f (by decide) (br_t rfl (sp_y390 hm hq hw (br_f (by decide) (br_f (by decide) (br_f (by decide) hp))))))))
theorem sp_c4 {a : Int32} (hm : m < 2) (hC : C ≤ 128) (hz : ∀ i, z i ≤ 8) (hlo : lo_ok z C ba ly) (hmm : mm_ok z C ba ly mO mA kd vl) (hrg : rg_ok z ba ct cY aO aA aV oC) (hpl : lk_pl z ba p) (h64 : p < 64) (hF : fd_ok mM mS mI mc sc ar bd bv mo z y fo nN od fa fn) (hl : lc ≤ 8) (hzc : ∀ n, n < 8 → z (8 + n) = wi_cm bd bv od n lc) : ∃ (mO' mA' st' ct' aO' aA' oC' ou' kd' vl' aV' cY' : Nat → Int32), mm_ok z C ba ly mO' mA' kd' vl' ∧ rg_ok z ba ct' cY' aO' aA' aV' oC' ∧ (∀ post : SX → Prop, post (0, 6, 7, nI mM, nI mS, nI mI, nI mc, nI sc, 1, nI lc, qc, nI C, na_v ar, na_v bd, na_v bv, na_v mo, na_v z, na_v fo, fa, fn, na_v od, po, wn, rt, qu, ba, pa, mO', mA', st', ct', aO', aA', oC', ou') → wX_step_57 post (nI m) (lk_mp ba m (nI p)) (nI 4) a 0 6 7 (nI mM) (nI mS) (nI mI) (nI mc) (nI sc) 1 (nI lc) qc (nI C) (na_v ar) (na_v bd) (na_v bv) (na_v mo) (na_v z) (na_v fo) fa fn (na_v od) po wn rt qu ba pa mO mA st ct aO aA oC ou) ∧ (∀ post : SY → Prop, post (nI mM, nI mS, nI mI, nI mc, nI sc, 1, nI lc, nI C, na_v ar, na_v mo, na_v y, na_v fo, na_v nN, fa, na_v bd, na_v bv, na_v od, ly, rY, kd', vl', ou', st', aO', aV', cY', oC') → wY_step_23 post (nI m) (nI p) (nI 4) (nI mM) (nI mS) (nI mI) (nI mc) (nI sc) 1 (nI lc) (nI C) (na_v ar) (na_v mo) (na_v y) (na_v fo) (na_v nN) fa (na_v bd) (na_v bv) (na_v od) ly rY kd vl ou st aO aV cY oC) := by
  have hin : vp_in (nI m) 2 := vp_in_nI hm (by decide)
  have ec : (nI m).toNatClampNeg = m := nI_clamp (by omega)
  obtain ⟨_, ha, _⟩ := hrg m hm
  rcases ha with ⟨e1, e2⟩ | ⟨e1, e2, e3⟩
  · obtain ⟨t, ht⟩ := sp_ka (mM := mM) (mS := mS) (mI := mI) (mc := mc) (sc := sc) (lc := lc) (ar := ar) (bd := bd) (bv := bv) (mo := mo) (y := y) (fo := fo) (nN := nN) (od := od) (fa := fa) (oC := oC) (ou := ou) (ly := ly) (rY := rY) (kd := kd) (vl := vl) (st := st) (aO := aO) (aV := aV) (cY := cY) (C := C) hm (aV m)
    have c7 : ¬ aO (nI m).toNatClampNeg = 7 := by rw [ec, e1]; decide
    refine sp_tr hm hC hz hlo hmm hrg hpl (fun post h => sp_57 (by decide) (by decide) (by decide) (by decide) (by decide) h) (fun post hp => ?_) (fun post hp => ?_)
    · exact br_f (by decide) (br_f (by decide) (br_f (by decide) (br_f (by decide) (br_f (by decide) (br_t rfl ⟨hin, br_f c7 hp⟩)))))
    refine br_f (by decide) (br_f (by decide) (br_f (by decide) (br_t rfl (sp_y57 hm (sp_y78 (by decide) (by decide) ht ?_)))))
    exact br_t rfl ⟨hin, br_f c7 (sp_y190 hm hp)⟩
  · have c7 : aO (nI m).toNatClampNeg = 7 := by rw [ec, e1]
    have ea : aA (nI m).toNatClampNeg = lk_mp ba m (aV m) := by rw [ec, e3]
    rcases sp_ld (mM := mM) (mS := mS) (mI := mI) (mc := mc) (sc := sc) (lc := lc) (ar := ar) (bd := bd) (bv := bv) (mo := mo) (y := y) (fo := fo) (nN := nN) (od := od) (fa := fa) (fn := fn) (qc := qc) (po := po) (wn := wn) (rt := rt) (qu := qu) (pa := pa) (ou := ou) (rY := rY) (st := st) (v := aV m) hm hC hz hlo hmm hrg hpl e2 with ⟨hX, t, t0, t7, t22, hk⟩ | ⟨q, t, w, ev, hq, hw, h07, hk, a', hr, hX⟩
    · refine sp_tr hm hC hz hlo hmm hrg hpl (fun post h => sp_57 (by decide) (by decide) (by decide) (by decide) (by decide) h) (fun post hp => ?_) (fun post hp => ?_)
      · refine br_f (by decide) (br_f (by decide) (br_f (by decide) (br_f (by decide) (br_f (by decide) (br_t rfl ⟨hin, br_t c7 ⟨hin, ?_⟩⟩)))))
        rw [ea]
        exact hX _ (br_t rfl hp)
      refine br_f (by decide) (br_f (by decide) (br_f (by decide) (br_t rfl (sp_y57 hm (sp_y78 (by decide) (by decide) hk ?_)))))
      exact br_t rfl ⟨hin, br_t c7 (br_t rfl (sp_y15n t22 t0 t7 (sp_y190 hm hp)))⟩
    · refine sp_ok (mO1 := mO) (mA1 := mA) (aO1 := upd aO m (nI t)) (aA1 := upd aA m a') (oC1 := oC) (ou1 := ou) (kd1 := kd) (vl1 := vl) (aV1 := upd aV m w) hm hC hz hlo hmm hrg hpl h64 hF hl hzc (fun post h => sp_57 (by decide) (by decide) (by decide) (by decide) (by decide) h) hmm hr
        (fun post hp => ?_) (fun post hp => ?_)
      · refine br_f (by decide) (br_f (by decide) (br_f (by decide) (br_f (by decide) (br_f (by decide) (br_t rfl ⟨hin, br_t c7 ⟨hin, ?_⟩⟩)))))
        rw [ea]
        exact hX _ (br_f (by decide) hp)
      refine br_f (by decide) (br_f (by decide) (br_f (by decide) (br_t rfl (sp_y57 hm (sp_y78 (by decide) (by decide) hk ?_)))))
      rw [ev]
      refine br_t rfl ⟨hin, br_t c7 (br_t rfl (sp_y152 h07 (br_f (by decide) (br_f (by decide) (sp_yw hm hC hz hlo hmm hrg hpl (by decide) (by decide) (by decide) (by decide) (fun h => absurd h (by decide)) ?_)))))⟩
      exact br_f (by decide) (br_f (by decide) (br_f (by decide) (br_t rfl (sp_y390 hm hq hw (br_f (by decide) (br_f (by decide) (br_f (by decide) hp)))))))
end
end
section
section
variable {mM mS mI mc sc lc : Nat} {ar bd bv mo z y fo nN od : Nat → Nat} {L qc cc cl : Int32} {fa fn po wn rt qu ba pa mO mA st ct aO aA oC ou ly rY kd vl aV cY : Nat → Int32}
variable {C m p : Nat}
/-! ADD, SUB -/
theorem sp_c10 {v : Int32} (hm : m < 2) (hC : C ≤ 128) (hz : ∀ i, z i ≤ 8) (hlo : lo_ok z C ba ly) (hmm : mm_ok z C ba ly mO mA kd vl) (hrg : rg_ok z ba ct cY aO aA aV oC) (hpl : lk_pl z ba p) (h64 : p < 64) (hF : fd_ok mM mS mI mc sc ar bd bv mo z y fo nN od fa fn) (hl : lc ≤ 8) (hzc : ∀ n, n < 8 → z (8 + n) = wi_cm bd bv od n lc) (hv : vl (128 * m + p) = v) (hok : lk_ok z ba v) : ∃ (mO' mA' st' ct' aO' aA' oC' ou' kd' vl' aV' cY' : Nat → Int32), mm_ok z C ba ly mO' mA' kd' vl' ∧ rg_ok z ba ct' cY' aO' aA' aV' oC' ∧ (∀ post : SX → Prop, post (0, 6, 7, nI mM, nI mS, nI mI, nI mc, nI sc, 1, nI lc, qc, nI C, na_v ar, na_v bd, na_v bv, na_v mo, na_v z, na_v fo, fa, fn, na_v od, po, wn, rt, qu, ba, pa, mO', mA', st', ct', aO', aA', oC', ou') → wX_step_57 post (nI m) (lk_mp ba m (nI p)) (nI 10) (lk_mp ba m v) 0 6 7 (nI mM) (nI mS) (nI mI) (nI mc) (nI sc) 1 (nI lc) qc (nI C) (na_v ar) (na_v bd) (na_v bv) (na_v mo) (na_v z) (na_v fo) fa fn (na_v od) po wn rt qu ba pa mO mA st ct aO aA oC ou) ∧ (∀ post : SY → Prop, post (nI mM, nI mS, nI mI, nI mc, nI sc, 1, nI lc, nI C, na_v ar, na_v mo, na_v y, na_v fo, na_v nN, fa, na_v bd, na_v bv, na_v od, ly, rY, kd', vl', ou', st', aO', aV', cY', oC') → wY_step_23 post (nI m) (nI p) (nI 10) (nI mM) (nI mS) (nI mI) (nI mc) (nI sc) 1 (nI lc) (nI C) (na_v ar) (na_v mo) (na_v y) (na_v fo) (na_v nN) fa (na_v bd) (na_v bv) (na_v od) ly rY kd vl ou st aO aV cY oC) := by
  have hin : vp_in (nI m) 2 := vp_in_nI hm (by decide)
  have ec : (nI m).toNatClampNeg = m := nI_clamp (by omega)
  obtain ⟨_, ha, _⟩ := hrg m hm
  rcases ha with ⟨e1, e2⟩ | ⟨e1, e2, e3⟩
  · have c0 : aO (nI m).toNatClampNeg = 0 := by rw [ec, e1]
    rcases hok with rfl | ⟨q, hq, rfl⟩
    · refine sp_tr hm hC hz hlo hmm hrg hpl (fun post h => sp_57 (by decide) (by decide) (by decide) (by decide) (by decide) h) (fun post hp => ?_) (fun post hp => ?_)
      · refine br_f (by decide) (br_f (by decide) (br_f (by decide) (br_f (by decide) (br_f (by decide) (br_f (by decide) (br_f (by decide) (br_f (by decide) (br_f (by decide) (br_f (by decide) (br_f (by decide) (br_t rfl ⟨hin, br_t c0 (sp_on hm hC hz hlo hmm (br_f (by decide) ?_))⟩)))))))))))
        exact ⟨rfl, hp⟩
      refine sp_y23 hm (by omega) (by decide) (by decide) (by decide) (by decide) (by decide) (by decide) ?_
      rw [hv]
      refine sp_y78 (t := 6) (by decide) (by decide) (fun post hp => sp_kn hp) ?_
      exact br_f (by decide) (br_f (by decide) (br_f (by decide) (br_f (by decide) (br_f (by decide) (br_t rfl ⟨hin, br_t c0 (br_f (by decide) (sp_y190 hm hp))⟩)))))
    · have q1 := hq.1
      obtain ⟨c, f1, f2, hop, _, h7, h7'⟩ := hmm.2 q hq m hm
      have hc : c ≤ 22 := by unfold fd_op at hop; omega
      have hk : ∀ post : Int32 → Prop, post (nI c) → wpY_kindAt post (nI mM, nI mS, nI mI, nI mc, nI sc, 1, nI lc, nI C, na_v ar, na_v mo, na_v y, na_v fo, na_v nN, fa, na_v bd, na_v bv, na_v od, ly, rY, kd, vl, ou, st, aO, aV, cY, oC) (nI m) (nI q) := fun post hp => sp_kd hm q1 (by rw [f1]; exact hp)
      by_cases hc0 : c = 0
      · subst hc0
        obtain ⟨l, h1, h2, h3, _, _⟩ := sp_loc hm hC hlo hq
        have ei : mA (128 * nI m + nI l).toNatClampNeg = vl (128 * m + q) := by rw [na_128, nI_clamp (by omega), h3, h7 (by decide)]
        have hi2 : vp_in (128 * nI m + nI l) 256 := na_in (na_128 m l) (by omega) (by decide)
        have hi3 : vp_in (128 * nI m + nI q) 256 := na_in (na_128 m q) (by omega) (by decide)
        refine sp_ok (mO1 := mO) (mA1 := mA) (aO1 := aO) (aA1 := upd aA m (aV m + vl (128 * m + q))) (oC1 := oC) (ou1 := ou) (kd1 := kd) (vl1 := vl) (aV1 := upd aV m (aV m + vl (128 * m + q))) hm hC hz hlo hmm hrg hpl h64 hF hl hzc (fun post h => sp_57 (by decide) (by decide) (by decide) (by decide) (by decide) h) hmm (rg_a2 hrg e1)
          (fun post hp => ?_) (fun post hp => ?_)
        · refine br_f (by decide) (br_f (by decide) (br_f (by decide) (br_f (by decide) (br_f (by decide) (br_f (by decide) (br_f (by decide) (br_f (by decide) (br_f (by decide) (br_f (by decide) (br_f (by decide) (br_t rfl ⟨hin, br_t c0 (sp_op hm hC hz hlo hmm hq f2 (br_t rfl ?_))⟩)))))))))))
          rw [h2]
          refine ⟨hin, hi2, hin, nm_r (e' := upd aA m (aV m + vl (128 * m + q))) (by rw [ei, ec, e2, sp_mp]) ?_⟩
          exact ⟨rfl, hp⟩
        refine sp_y23 hm (by omega) (by decide) (by decide) (by decide) (by decide) (by decide) (by decide) ?_
        rw [hv]
        refine sp_y78 (by decide) (by decide) hk ?_
        refine br_f (by decide) (br_f (by decide) (br_f (by decide) (br_f (by decide) (br_f (by decide) (br_t rfl ⟨hin, br_t c0 (br_t rfl (sp_yw hm hC hz hlo hmm hrg hpl (by decide) (by decide) (by decide) (by decide) (fun h => absurd h (by decide)) ?_))⟩)))))
        exact br_f (by decide) (br_f (by decide) (br_f (by decide) (br_f (by decide) (br_f (by decide) (br_f (by decide) (br_t rfl ⟨hin, hi3, hin, nm_r (e' := upd aV m (aV m + vl (128 * m + q))) (by rw [ec, na_128, nI_clamp (by omega)]) (br_f (by decide) hp)⟩))))))
      · refine sp_tr hm hC hz hlo hmm hrg hpl (fun post h => sp_57 (by decide) (by decide) (by decide) (by decide) (by decide) h) (fun post hp => ?_) (fun post hp => ?_)
        · refine br_f (by decide) (br_f (by decide) (br_f (by decide) (br_f (by decide) (br_f (by decide) (br_f (by decide) (br_f (by decide) (br_f (by decide) (br_f (by decide) (br_f (by decide) (br_f (by decide) (br_t rfl ⟨hin, br_t c0 (sp_op hm hC hz hlo hmm hq f2 (br_f (sp_ne (b := 0) hc0 (by omega) (by decide)) ?_))⟩)))))))))))
          exact ⟨rfl, hp⟩
        refine sp_y23 hm (by omega) (by decide) (by decide) (by decide) (by decide) (by decide) (by decide) ?_
        rw [hv]
        refine sp_y78 (by decide) (by decide) hk ?_
        exact br_f (by decide) (br_f (by decide) (br_f (by decide) (br_f (by decide) (br_f (by decide) (br_t rfl ⟨hin, br_t c0 (br_f (sp_ne (b := 0) hc0 (by omega) (by decide)) (sp_y190 hm hp))⟩)))))
  · have c0 : ¬ aO (nI m).toNatClampNeg = 0 := by rw [ec, e1]; decide
    obtain ⟨t, ht⟩ := sp_ka (mM := mM) (mS := mS) (mI := mI) (mc := mc) (sc := sc) (lc := lc) (ar := ar) (bd := bd) (bv := bv) (mo := mo) (y := y) (fo := fo) (nN := nN) (od := od) (fa := fa) (oC := oC) (ou := ou) (ly := ly) (rY := rY) (kd := kd) (vl := vl) (st := st) (aO := aO) (aV := aV) (cY := cY) (C := C) hm v
    refine sp_tr hm hC hz hlo hmm hrg hpl (fun post h => sp_57 (by decide) (by decide) (by decide) (by decide) (by decide) h) (fun post hp => ?_) (fun post hp => ?_)
    · refine br_f (by decide) (br_f (by decide) (br_f (by decide) (br_f (by decide) (br_f (by decide) (br_f (by decide) (br_f (by decide) (br_f (by decide) (br_f (by decide) (br_f (by decide) (br_f (by decide) (br_t rfl ⟨hin, br_f c0 ?_⟩)))))))))))
      exact ⟨rfl, hp⟩
    refine sp_y23 hm (by omega) (by decide) (by decide) (by decide) (by decide) (by decide) (by decide) ?_
    rw [hv]
    refine sp_y78 (by decide) (by decide) ht ?_
    exact br_f (by decide) (br_f (by decide) (br_f (by decide) (br_f (by decide) (br_f (by decide) (br_t rfl ⟨hin, br_f c0 (sp_y190 hm hp)⟩)))))
theorem sp_c11 {v : Int32} (hm : m < 2) (hC : C ≤ 128) (hz : ∀ i, z i ≤ 8) (hlo : lo_ok z C ba ly) (hmm : mm_ok z C ba ly mO mA kd vl) (hrg : rg_ok z ba ct cY aO aA aV oC) (hpl : lk_pl z ba p) (h64 : p < 64) (hF : fd_ok mM mS mI mc sc ar bd bv mo z y fo nN od fa fn) (hl : lc ≤ 8) (hzc : ∀ n, n < 8 → z (8 + n) = wi_cm bd bv od n lc) (hv : vl (128 * m + p) = v) (hok : lk_ok z ba v) : ∃ (mO' mA' st' ct' aO' aA' oC' ou' kd' vl' aV' cY' : Nat → Int32), mm_ok z C ba ly mO' mA' kd' vl' ∧ rg_ok z ba ct' cY' aO' aA' aV' oC' ∧ (∀ post : SX → Prop, post (0, 6, 7, nI mM, nI mS, nI mI, nI mc, nI sc, 1, nI lc, qc, nI C, na_v ar, na_v bd, na_v bv, na_v mo, na_v z, na_v fo, fa, fn, na_v od, po, wn, rt, qu, ba, pa, mO', mA', st', ct', aO', aA', oC', ou') → wX_step_57 post (nI m) (lk_mp ba m (nI p)) (nI 11) (lk_mp ba m v) 0 6 7 (nI mM) (nI mS) (nI mI) (nI mc) (nI sc) 1 (nI lc) qc (nI C) (na_v ar) (na_v bd) (na_v bv) (na_v mo) (na_v z) (na_v fo) fa fn (na_v od) po wn rt qu ba pa mO mA st ct aO aA oC ou) ∧ (∀ post : SY → Prop, post (nI mM, nI mS, nI mI, nI mc, nI sc, 1, nI lc, nI C, na_v ar, na_v mo, na_v y, na_v fo, na_v nN, fa, na_v bd, na_v bv, na_v od, ly, rY, kd', vl', ou', st', aO', aV', cY', oC') → wY_step_23 post (nI m) (nI p) (nI 11) (nI mM) (nI mS) (nI mI) (nI mc) (nI sc) 1 (nI lc) (nI C) (na_v ar) (na_v mo) (na_v y) (na_v fo) (na_v nN) fa (na_v bd) (na_v bv) (na_v od) ly rY kd vl ou st aO aV cY oC) := by
  have hin : vp_in (nI m) 2 := vp_in_nI hm (by decide)
  have ec : (nI m).toNatClampNeg = m := nI_clamp (by omega)
  obtain ⟨_, ha, _⟩ := hrg m hm
  rcases ha with ⟨e1, e2⟩ | ⟨e1, e2, e3⟩
  · have c0 : aO (nI m).toNatClampNeg = 0 := by rw [ec, e1]
    rcases hok with rfl | ⟨q, hq, rfl⟩
    · refine sp_tr hm hC hz hlo hmm hrg hpl (fun post h => sp_57 (by decide) (by decide) (by decide) (by decide) (by decide) h) (fun post hp => ?_) (fun post hp => ?_)
      · refine br_f (by decide) (br_f (by decide) (br_f (by decide) (br_f (by decide) (br_f (by decide) (br_f (by decide) (br_f (by decide) (br_f (by decide) (br_f (by decide) (br_f (by decide) (br_f (by decide) (br_f (by decide) (br_t rfl ⟨hin, br_t c0 (sp_on hm hC hz hlo hmm (br_f (by decide) ?_))⟩))))))))))))
        exact ⟨rfl, hp⟩
      refine sp_y23 hm (by omega) (by decide) (by decide) (by decide) (by decide) (by decide) (by decide) ?_
      rw [hv]
      refine sp_y78 (t := 6) (by decide) (by decide) (fun post hp => sp_kn hp) ?_
      exact br_f (by decide) (br_f (by decide) (br_f (by decide) (br_f (by decide) (br_f (by decide) (br_f (by decide) (br_t rfl ⟨hin, br_t c0 (br_f (by decide) (sp_y190 hm hp))⟩))))))
    · have q1 := hq.1
      obtain ⟨c, f1, f2, hop, _, h7, h7'⟩ := hmm.2 q hq m hm
      have hc : c ≤ 22 := by unfold fd_op at hop; omega
      have hk : ∀ post : Int32 → Prop, post (nI c) → wpY_kindAt post (nI mM, nI mS, nI mI, nI mc, nI sc, 1, nI lc, nI C, na_v ar, na_v mo, na_v y, na_v fo, na_v nN, fa, na_v bd, na_v bv, na_v od, ly, rY, kd, vl, ou, st, aO, aV, cY, oC) (nI m) (nI q) := fun post hp => sp_kd hm q1 (by rw [f1]; exact hp)
      by_cases hc0 : c = 0
      · subst hc0
        obtain ⟨l, h1, h2, h3, _, _⟩ := sp_loc hm hC hlo hq
        have ei : mA (128 * nI m + nI l).toNatClampNeg = vl (128 * m + q) := by rw [na_128, nI_clamp (by omega), h3, h7 (by decide)]
        have hi2 : vp_in (128 * nI m + nI l) 256 := na_in (na_128 m l) (by omega) (by decide)
        have hi3 : vp_in (128 * nI m + nI q) 256 := na_in (na_128 m q) (by omega) (by decide)
        refine sp_ok (mO1 := mO) (mA1 := mA) (aO1 := aO) (aA1 := upd aA m (aV m - vl (128 * m + q))) (oC1 := oC) (ou1 := ou) (kd1 := kd) (vl1 := vl) (aV1 := upd aV m (aV m - vl (128 * m + q))) hm hC hz hlo hmm hrg hpl h64 hF hl hzc (fun post h => sp_57 (by decide) (by decide) (by decide) (by decide) (by decide) h) hmm (rg_a2 hrg e1)
          (fun post hp => ?_) (fun post hp => ?_)
        · refine br_f (by decide) (br_f (by decide) (br_f (by decide) (br_f (by decide) (br_f (by decide) (br_f (by decide) (br_f (by decide) (br_f (by decide) (br_f (by decide) (br_f (by decide) (br_f (by decide) (br_f (by decide) (br_t rfl ⟨hin, br_t c0 (sp_op hm hC hz hlo hmm hq f2 (br_t rfl ?_))⟩))))))))))))
          rw [h2]
          refine ⟨hin, hi2, hin, nm_r (e' := upd aA m (aV m - vl (128 * m + q))) (by rw [ei, ec, e2, sp_ml]) ?_⟩
          exact ⟨rfl, hp⟩
        refine sp_y23 hm (by omega) (by decide) (by decide) (by decide) (by decide) (by decide) (by decide) ?_
        rw [hv]
        refine sp_y78 (by decide) (by decide) hk ?_
        refine br_f (by decide) (br_f (by decide) (br_f (by decide) (br_f (by decide) (br_f (by decide) (br_f (by decide) (br_t rfl ⟨hin, br_t c0 (br_t rfl (sp_yw hm hC hz hlo hmm hrg hpl (by decide) (by decide) (by decide) (by decide) (fun h => absurd h (by decide)) ?_))⟩))))))
        exact br_f (by decide) (br_f (by decide) (br_f (by decide) (br_f (by decide) (br_f (by decide) (br_f (by decide) (br_f (by decide) (br_t rfl ⟨hin, hi3, hin, nm_r (e' := upd aV m (aV m - vl (128 * m + q))) (by rw [ec, na_128, nI_clamp (by omega)]) hp⟩)))))))
      · refine sp_tr hm hC hz hlo hmm hrg hpl (fun post h => sp_57 (by decide) (by decide) (by decide) (by decide) (by decide) h) (fun post hp => ?_) (fun post hp => ?_)
        · refine br_f (by decide) (br_f (by decide) (br_f (by decide) (br_f (by decide) (br_f (by decide) (br_f (by decide) (br_f (by decide) (br_f (by decide) (br_f (by decide) (br_f (by decide) (br_f (by decide) (br_f (by decide) (br_t rfl ⟨hin, br_t c0 (sp_op hm hC hz hlo hmm hq f2 (br_f (sp_ne (b := 0) hc0 (by omega) (by decide)) ?_))⟩))))))))))))
          exact ⟨rfl, hp⟩
        refine sp_y23 hm (by omega) (by decide) (by decide) (by decide) (by decide) (by decide) (by decide) ?_
        rw [hv]
        refine sp_y78 (by decide) (by decide) hk ?_
        exact br_f (by decide) (br_f (by decide) (br_f (by decide) (br_f (by decide) (br_f (by decide) (br_f (by decide) (br_t rfl ⟨hin, br_t c0 (br_f (sp_ne (b := 0) hc0 (by omega) (by decide)) (sp_y190 hm hp))⟩))))))
  · have c0 : ¬ aO (nI m).toNatClampNeg = 0 := by rw [ec, e1]; decide
    obtain ⟨t, ht⟩ := sp_ka (mM := mM) (mS := mS) (mI := mI) (mc := mc) (sc := sc) (lc := lc) (ar := ar) (bd := bd) (bv := bv) (mo := mo) (y := y) (fo := fo) (nN := nN) (od := od) (fa := fa) (oC := oC) (ou := ou) (ly := ly) (rY := rY) (kd := kd) (vl := vl) (st := st) (aO := aO) (aV := aV) (cY := cY) (C := C) hm v
    refine sp_tr hm hC hz hlo hmm hrg hpl (fun post h => sp_57 (by decide) (by decide) (by decide) (by decide) (by decide) h) (fun post hp => ?_) (fun post hp => ?_)
    · refine br_f (by decide) (br_f (by decide) (br_f (by decide) (br_f (by decide) (br_f (by decide) (br_f (by decide) (br_f (by decide) (br_f (by decide) (br_f (by decide) (br_f (by decide) (br_f (by decide) (br_f (by decide) (br_t rfl ⟨hin, br_f c0 ?_⟩))))))))))))
      exact ⟨rfl, hp⟩
    refine sp_y23 hm (by omega) (by decide) (by decide) (by decide) (by decide) (by decide) (by decide) ?_
    rw [hv]
    refine sp_y78 (by decide) (by decide) ht ?_
    exact br_f (by decide) (br_f (by decide) (br_f (by decide) (br_f (by decide) (br_f (by decide) (br_f (by decide) (br_t rfl ⟨hin, br_f c0 (sp_y190 hm hp)⟩))))))

/-! STORE -/
theorem sp_sx {post : Int32 → SX → Prop} {q c : Nat} (hm : m < 2) (hC : C ≤ 128) (hz : ∀ i, z i ≤ 8) (hlo : lo_ok z C ba ly) (hmm : mm_ok z C ba ly mO mA kd vl) (hrg : rg_ok z ba ct cY aO aA aV oC) (hpl : lk_pl z ba p) (hq : lk_pl z ba q) (hc : mO (lk_ix ba m q) = nI c) (h07 : c = 0 ∨ c = 7) (hp : post 1 (0, 6, 7, nI mM, nI mS, nI mI, nI mc, nI sc, 1, nI lc, qc, nI C, na_v ar, na_v bd, na_v bv, na_v mo, na_v z, na_v fo, fa, fn, na_v od, po, wn, rt, qu, ba, pa, upd mO (lk_ix ba m q) (aO m), upd mA (lk_ix ba m q) (aA m), st, ct, aO, aA, oC, ou)) : wpX_storeTo post (0, 6, 7, nI mM, nI mS, nI mI, nI mc, nI sc, 1, nI lc, qc, nI C, na_v ar, na_v bd, na_v bv, na_v mo, na_v z, na_v fo, fa, fn, na_v od, po, wn, rt, qu, ba, pa, mO, mA, st, ct, aO, aA, oC, ou) (nI m) (lk_mp ba m (nI q)) := by
  have hin : vp_in (nI m) 2 := vp_in_nI hm (by decide)
  have ec : (nI m).toNatClampNeg = m := nI_clamp (by omega)
  obtain ⟨l, h1, h2, h3, _, _⟩ := sp_loc hm hC hlo hq
  unfold wpX_storeTo
  refine sp_op hm hC hz hlo hmm hq hc ?_
  rw [h2]
  have ei : (128 * nI m + nI l).toNatClampNeg = lk_ix ba m q := by rw [na_128, nI_clamp (by omega), h3]
  have hi2 : vp_in (128 * nI m + nI l) 256 := na_in (na_128 m l) (by omega) (by decide)
  have eO : upd mO (128 * nI m + nI l).toNatClampNeg (aO (nI m).toNatClampNeg) = upd mO (lk_ix ba m q) (aO m) := by rw [ei, ec]
  have eA : upd mA (128 * nI m + nI l).toNatClampNeg (aA (nI m).toNatClampNeg) = upd mA (lk_ix ba m q) (aA m) := by rw [ei, ec]
  rcases h07 with rfl | rfl
  · exact br_t rfl ⟨hin, hi2, nm_r eO ⟨hin, hi2, nm_r eA hp⟩⟩
  · exact br_f (by decide) (br_t rfl ⟨hin, hi2, nm_r eO ⟨hin, hi2, nm_r eA hp⟩⟩)
theorem sp_c9 {v : Int32} (hm : m < 2) (hC : C ≤ 128) (hz : ∀ i, z i ≤ 8) (hlo : lo_ok z C ba ly) (hmm : mm_ok z C ba ly mO mA kd vl) (hrg : rg_ok z ba ct cY aO aA aV oC) (hpl : lk_pl z ba p) (h64 : p < 64) (hF : fd_ok mM mS mI mc sc ar bd bv mo z y fo nN od fa fn) (hl : lc ≤ 8) (hzc : ∀ n, n < 8 → z (8 + n) = wi_cm bd bv od n lc) (hv : vl (128 * m + p) = v) (hok : lk_ok z ba v) : ∃ (mO' mA' st' ct' aO' aA' oC' ou' kd' vl' aV' cY' : Nat → Int32), mm_ok z C ba ly mO' mA' kd' vl' ∧ rg_ok z ba ct' cY' aO' aA' aV' oC' ∧ (∀ post : SX → Prop, post (0, 6, 7, nI mM, nI mS, nI mI, nI mc, nI sc, 1, nI lc, qc, nI C, na_v ar, na_v bd, na_v bv, na_v mo, na_v z, na_v fo, fa, fn, na_v od, po, wn, rt, qu, ba, pa, mO', mA', st', ct', aO', aA', oC', ou') → wX_step_57 post (nI m) (lk_mp ba m (nI p)) (nI 9) (lk_mp ba m v) 0 6 7 (nI mM) (nI mS) (nI mI) (nI mc) (nI sc) 1 (nI lc) qc (nI C) (na_v ar) (na_v bd) (na_v bv) (na_v mo) (na_v z) (na_v fo) fa fn (na_v od) po wn rt qu ba pa mO mA st ct aO aA oC ou) ∧ (∀ post : SY → Prop, post (nI mM, nI mS, nI mI, nI mc, nI sc, 1, nI lc, nI C, na_v ar, na_v mo, na_v y, na_v fo, na_v nN, fa, na_v bd, na_v bv, na_v od, ly, rY, kd', vl', ou', st', aO', aV', cY', oC') → wY_step_23 post (nI m) (nI p) (nI 9) (nI mM) (nI mS) (nI mI) (nI mc) (nI sc) 1 (nI lc) (nI C) (na_v ar) (na_v mo) (na_v y) (na_v fo) (na_v nN) fa (na_v bd) (na_v bv) (na_v od) ly rY kd vl ou st aO aV cY oC) := by
  have hin : vp_in (nI m) 2 := vp_in_nI hm (by decide)
  have ec : (nI m).toNatClampNeg = m := nI_clamp (by omega)
  rcases hok with rfl | ⟨q, hq, rfl⟩
  · refine sp_tr hm hC hz hlo hmm hrg hpl (fun post h => sp_57 (by decide) (by decide) (by decide) (by decide) (by decide) h) (fun post hp => ?_) (fun post hp => ?_)
    · refine br_f (by decide) (br_f (by decide) (br_f (by decide) (br_f (by decide) (br_f (by decide) (br_f (by decide) (br_f (by decide) (br_f (by decide) (br_f (by decide) (br_f (by decide) (br_t rfl ?_))))))))))
      unfold wpX_storeTo
      refine sp_on hm hC hz hlo hmm (br_f (by decide) (br_f (by decide) ?_))
      exact ⟨rfl, hp⟩
    refine sp_y23 hm (by omega) (by decide) (by decide) (by decide) (by decide) (by decide) (by decide) ?_
    rw [hv]
    refine sp_y78 (t := nI 6) (by decide) (by decide) (fun post hp => sp_kn hp) ?_
    exact br_f (by decide) (br_f (by decide) (br_f (by decide) (br_f (by decide) (br_t rfl (sp_y15n (by decide) (by decide) (by decide) (sp_y190 hm hp))))))
  · have q1 := hq.1
    obtain ⟨c, f1, f2, hop, _, h7, h7'⟩ := hmm.2 q hq m hm
    have hc : c ≤ 22 := by unfold fd_op at hop; omega
    have hk : ∀ post : Int32 → Prop, post (nI c) → wpY_kindAt post (nI mM, nI mS, nI mI, nI mc, nI sc, 1, nI lc, nI C, na_v ar, na_v mo, na_v y, na_v fo, na_v nN, fa, na_v bd, na_v bv, na_v od, ly, rY, kd, vl, ou, st, aO, aV, cY, oC) (nI m) (nI q) := fun post hp => sp_kd hm q1 (by rw [f1]; exact hp)
    by_cases h07 : c = 0 ∨ c = 7
    · obtain ⟨_, ha, _⟩ := hrg m hm
      have mm1 : mm_ok z C ba ly (upd mO (lk_ix ba m q) (aO m)) (upd mA (lk_ix ba m q) (aA m)) (upd kd (128 * m + q) (aO m)) (upd vl (128 * m + q) (aV m)) := by
        rcases ha with ⟨e1, e2⟩ | ⟨e1, e2, e3⟩
        · have := mm_st (c := 0) (a := aA m) (v := aV m) hm hC hlo hmm hq (Or.inl ⟨rfl, e2⟩)
          rw [e1]; exact this
        · have := mm_st (c := 7) (a := aA m) (v := aV m) hm hC hlo hmm hq (Or.inr ⟨rfl, e2, e3⟩)
          rw [e1]; exact this
      have ei : (128 * nI m + nI q).toNatClampNeg = 128 * m + q := by rw [na_128, nI_clamp (by omega)]
      have hi2 : vp_in (128 * nI m + nI q) 256 := na_in (na_128 m q) (by omega) (by decide)
      have eO : upd kd (128 * nI m + nI q).toNatClampNeg (aO (nI m).toNatClampNeg) = upd kd (128 * m + q) (aO m) := by rw [ei, ec]
      have eA : upd vl (128 * nI m + nI q).toNatClampNeg (aV (nI m).toNatClampNeg) = upd vl (128 * m + q) (aV m) := by rw [ei, ec]
      refine sp_ok (mO1 := upd mO (lk_ix ba m q) (aO m)) (mA1 := upd mA (lk_ix ba m q) (aA m)) (aO1 := aO) (aA1 := aA) (oC1 := oC) (ou1 := ou) (kd1 := upd kd (128 * m + q) (aO m)) (vl1 := upd vl (128 * m + q) (aV m)) (aV1 := aV) hm hC hz hlo hmm hrg hpl h64 hF hl hzc (fun post h => sp_57 (by decide) (by decide) (by decide) (by decide) (by decide) h) mm1 hrg
        (fun post hp => ?_) (fun post hp => ?_)
      · refine br_f (by decide) (br_f (by decide) (br_f (by decide) (br_f (by decide) (br_f (by decide) (br_f (by decide) (br_f (by decide) (br_f (by decide) (br_f (by decide) (br_f (by decide) (br_t rfl ?_))))))))))
        refine sp_sx hm hC hz hlo hmm hrg hpl hq f2 h07 ?_
        exact ⟨rfl, hp⟩
      refine sp_y23 hm (by omega) (by decide) (by decide) (by decide) (by decide) (by decide) (by decide) ?_
      rw [hv]
      refine sp_y78 (by decide) (by decide) hk ?_
      refine br_f (by decide) (br_f (by decide) (br_f (by decide) (br_f (by decide) (br_t rfl (sp_y152 h07 (br_f (by decide) (br_f (by decide) (sp_yw hm hC hz hlo hmm hrg hpl (by decide) (by decide) (by decide) (by decide) (fun h => absurd h (by decide)) ?_))))))))
      exact br_f (by decide) (br_f (by decide) (br_f (by decide) (br_f (by decide) (br_f (by decide) (br_t rfl ⟨hin, hi2, nm_r eO ⟨hin, hi2, nm_r eA (br_f (by decide) (br_f (by decide) hp))⟩⟩)))))
    · refine sp_tr hm hC hz hlo hmm hrg hpl (fun post h => sp_57 (by decide) (by decide) (by decide) (by decide) (by decide) h) (fun post hp => ?_) (fun post hp => ?_)
      · refine br_f (by decide) (br_f (by decide) (br_f (by decide) (br_f (by decide) (br_f (by decide) (br_f (by decide) (br_f (by decide) (br_f (by decide) (br_f (by decide) (br_f (by decide) (br_t rfl ?_))))))))))
        unfold wpX_storeTo
        refine sp_op hm hC hz hlo hmm hq f2 (br_f (sp_ne (b := 0) (fun e => h07 (Or.inl e)) (by omega) (by decide)) (br_f (sp_ne (b := 7) (fun e => h07 (Or.inr e)) (by omega) (by decide)) ?_))
        exact ⟨rfl, hp⟩
      refine sp_y23 hm (by omega) (by decide) (by decide) (by decide) (by decide) (by decide) (by decide) ?_
      rw [hv]
      refine sp_y78 (by decide) (by decide) hk ?_
      exact br_f (by decide) (br_f (by decide) (br_f (by decide) (br_f (by decide) (br_t rfl (sp_y15n hc (fun e => h07 (Or.inl e)) (fun e => h07 (Or.inr e)) (sp_y190 hm hp))))))
/-! all opcodes -/
theorem sp_al {e : Nat} {a v : Int32} (hm : m < 2) (hC : C ≤ 128) (hz : ∀ i, z i ≤ 8) (hlo : lo_ok z C ba ly) (hmm : mm_ok z C ba ly mO mA kd vl) (hrg : rg_ok z ba ct cY aO aA aV oC) (hpl : lk_pl z ba p) (h6 : e ≠ 0 → e ≠ 7 → p < 64) (hF : fd_ok mM mS mI mc sc ar bd bv mo z y fo nN od fa fn) (hl : lc ≤ 8) (hzc : ∀ n, n < 8 → z (8 + n) = wi_cm bd bv od n lc)
    (hv : vl (128 * m + p) = v) (he : e ≤ 5 ∨ (7 ≤ e ∧ e ≤ 14)) (ha1 : e < 7 → a = v) (ha2 : 7 ≤ e → lk_ok z ba v ∧ a = lk_mp ba m v) : ∃ (mO' mA' st' ct' aO' aA' oC' ou' kd' vl' aV' cY' : Nat → Int32), mm_ok z C ba ly mO' mA' kd' vl' ∧ rg_ok z ba ct' cY' aO' aA' aV' oC' ∧ (∀ post : SX → Prop, post (0, 6, 7, nI mM, nI mS, nI mI, nI mc, nI sc, 1, nI lc, qc, nI C, na_v ar, na_v bd, na_v bv, na_v mo, na_v z, na_v fo, fa, fn, na_v od, po, wn, rt, qu, ba, pa, mO', mA', st', ct', aO', aA', oC', ou') → wX_step_57 post (nI m) (lk_mp ba m (nI p)) (nI e) a 0 6 7 (nI mM) (nI mS) (nI mI) (nI mc) (nI sc) 1 (nI lc) qc (nI C) (na_v ar) (na_v bd) (na_v bv) (na_v mo) (na_v z) (na_v fo) fa fn (na_v od) po wn rt qu ba pa mO mA st ct aO aA oC ou) ∧ (∀ post : SY → Prop, post (nI mM, nI mS, nI mI, nI mc, nI sc, 1, nI lc, nI C, na_v ar, na_v mo, na_v y, na_v fo, na_v nN, fa, na_v bd, na_v bv, na_v od, ly, rY, kd', vl', ou', st', aO', aV', cY', oC') → wY_step_23 post (nI m) (nI p) (nI e) (nI mM) (nI mS) (nI mI) (nI mc) (nI sc) 1 (nI lc) (nI C) (na_v ar) (na_v mo) (na_v y) (na_v fo) (na_v nN) fa (na_v bd) (na_v bv) (na_v od) ly rY kd vl ou st aO aV cY oC) := by
  by_cases h0 : e = 0 ∨ e = 7
  · exact sp_c0 hm hC hz hlo hmm hrg hpl h0
  have h64 : p < 64 := h6 (fun q => h0 (Or.inl q)) (fun q => h0 (Or.inr q))
  by_cases h5 : e ≤ 5
  · have hh : e = 1 ∨ e = 2 ∨ e = 3 ∨ e = 4 ∨ e = 5 := by omega
    have e1 := ha1 (by omega)
    subst e1
    rcases hh with rfl | rfl | rfl | rfl | rfl
    · exact sp_c1 hm hC hz hlo hmm hrg hpl h64 hF hl hzc hv
    · exact sp_c2 hm hC hz hlo hmm hrg hpl h64 hF hl hzc
    · exact sp_c3 hm hC hz hlo hmm hrg hpl
    · exact sp_c4 hm hC hz hlo hmm hrg hpl h64 hF hl hzc
    · exact sp_c5 hm hC hz hlo hmm hrg hpl
  · have hh : e = 8 ∨ e = 9 ∨ e = 10 ∨ e = 11 ∨ e = 12 ∨ e = 13 ∨ e = 14 := by omega
    obtain ⟨hok, e1⟩ := ha2 (by omega)
    subst e1
    rcases hh with rfl | rfl | rfl | rfl | rfl | rfl | rfl
    · exact sp_c8 hm hC hz hlo hmm hrg hpl h64 hF hl hzc hv hok
    · exact sp_c9 hm hC hz hlo hmm hrg hpl h64 hF hl hzc hv hok
    · exact sp_c10 hm hC hz hlo hmm hrg hpl h64 hF hl hzc hv hok
    · exact sp_c11 hm hC hz hlo hmm hrg hpl h64 hF hl hzc hv hok
    · exact sp_c12 hm hC hz hlo hmm hrg hpl hv hok
    · exact sp_c13 hm hC hz hlo hmm hrg hpl h64 hF hl hzc hv hok
    · exact sp_c14 hm hC hz hlo hmm hrg hpl h64 hF hl hzc hv hok
end
end
section
section
variable {mM mS mI mc sc lc : Nat} {ar bd bv mo z y fo nN od : Nat → Nat} {L qc cc cl : Int32} {fa fn po wn rt qu ba pa mO mA st ct aO aA oC ou ly rY kd vl aV cY : Nat → Int32}
variable {C m p : Nat}
theorem sp_st (hm : m < 2) (hC : C ≤ 128) (hz : ∀ i, z i ≤ 8) (hlo : lo_ok z C ba ly) (hF : fd_ok mM mS mI mc sc ar bd bv mo z y fo nN od fa fn) (hl : lc ≤ 8) (hzc : ∀ n, n < 8 → z (8 + n) = wi_cm bd bv od n lc) (hmm : mm_ok z C ba ly mO mA kd vl) (hrg : rg_ok z ba ct cY aO aA aV oC) :
    ∃ (mO' mA' st' ct' aO' aA' oC' ou' kd' vl' aV' cY' : Nat → Int32), mm_ok z C ba ly mO' mA' kd' vl' ∧ rg_ok z ba ct' cY' aO' aA' aV' oC' ∧ (∀ post : SX → Prop, post (0, 6, 7, nI mM, nI mS, nI mI, nI mc, nI sc, 1, nI lc, qc, nI C, na_v ar, na_v bd, na_v bv, na_v mo, na_v z, na_v fo, fa, fn, na_v od, po, wn, rt, qu, ba, pa, mO', mA', st', ct', aO', aA', oC', ou') → wpX_step post (0, 6, 7, nI mM, nI mS, nI mI, nI mc, nI sc, 1, nI lc, qc, nI C, na_v ar, na_v bd, na_v bv, na_v mo, na_v z, na_v fo, fa, fn, na_v od, po, wn, rt, qu, ba, pa, mO, mA, st, ct, aO, aA, oC, ou) (nI m)) ∧ (∀ post : SY → Prop, post (nI mM, nI mS, nI mI, nI mc, nI sc, 1, nI lc, nI C, na_v ar, na_v mo, na_v y, na_v fo, na_v nN, fa, na_v bd, na_v bv, na_v od, ly, rY, kd', vl', ou', st', aO', aV', cY', oC') → wpY_step post (nI mM, nI mS, nI mI, nI mc, nI sc, 1, nI lc, nI C, na_v ar, na_v mo, na_v y, na_v fo, na_v nN, fa, na_v bd, na_v bv, na_v od, ly, rY, kd, vl, ou, st, aO, aV, cY, oC) (nI m)) := by
  have hin : vp_in (nI m) 2 := vp_in_nI hm (by decide)
  have ec : (nI m).toNatClampNeg = m := nI_clamp (by omega)
  obtain ⟨⟨hok, ect⟩, _, _⟩ := hrg m hm
  rcases hok with ev | ⟨p, hpl, ev⟩
  · refine ⟨mO, mA, upd st m 2, ct, aO, aA, oC, ou, kd, vl, aV, cY, hmm, hrg, fun post hp => ⟨hin, nm_r (e' := lk_mp ba m (-1)) (by rw [ec, ect, ev]) ?_⟩, fun post hp => ⟨hin, nm_r (e' := -1) (by rw [ec, ev]) (sp_kn (br_t (by decide) (br_f (by decide) (br_f (by decide) (br_t rfl ⟨hin, nm_r (na_uc (by omega)) hp⟩)))))⟩⟩
    refine sp_on hm hC hz hlo hmm (br_t rfl (br_t (by decide) (sp_57 (e := 6) (by decide) (by decide) (by decide) (by decide) (by decide) ?_)))
    unfold wX_step_134
    exact br_f (by decide) (br_f (by decide) (br_f (by decide) (br_f (by decide) (br_f (by decide) (br_f (by decide) (br_f (by decide) (br_t rfl (br_t rfl ⟨hin, nm_r (na_uc (by omega)) hp⟩))))))))
  · obtain ⟨c, f1, f2, hop, h64, h7, h7'⟩ := hmm.2 p hpl m hm
    have p1 := hpl.1
    have hc : c ≤ 22 ∧ c ≠ 6 := by unfold fd_op at hop; omega
    obtain ⟨l, h1, h2, h3, h4, h5⟩ := sp_loc hm hC hlo hpl
    have ei : mA (128 * nI m + lk_mp ba m (nI p)).toNatClampNeg = mA (lk_ix ba m p) := by rw [h2, na_128, nI_clamp (by omega), h3]
    have hi2 : vp_in (128 * nI m + lk_mp ba m (nI p)) 256 := na_in (by rw [h2]; exact na_128 m l) (by omega) (by decide)
    have n6 : ¬ nI c = 6 := sp_ne (b := 6) hc.2 (by omega) (by decide)
    have e1 : ct (nI m).toNatClampNeg = lk_mp ba m (nI p) := by rw [ec, ect, ev]
    have e2 : cY (nI m).toNatClampNeg = nI p := by rw [ec, ev]
    by_cases h16 : c < 16
    · obtain ⟨mO', mA', st', ct', aO', aA', oC', ou', kd', vl', aV', cY', k1, k2, k3, k4⟩ := sp_al (mM := mM) (mS := mS) (mI := mI) (mc := mc) (sc := sc) (lc := lc) (ar := ar) (bd := bd) (bv := bv) (mo := mo) (y := y) (fo := fo) (nN := nN) (od := od) (fa := fa) (fn := fn) (qc := qc) (po := po) (wn := wn) (rt := rt) (qu := qu) (pa := pa) (ou := ou) (rY := rY) (st := st) (e := c) (a := mA (lk_ix ba m p)) (v := vl (128 * m + p)) hm hC hz hlo hmm hrg hpl (fun q0 q7 => Nat.lt_of_not_le (fun q => (h64 q).elim q0 q7)) hF hl hzc rfl (by unfold fd_op at hop; omega) h7 (fun q => by
        obtain ⟨w1, w2⟩ := h7' q
        rw [if_neg (by omega)] at w2
        exact ⟨w1, w2⟩)
      refine ⟨mO', mA', st', ct', aO', aA', oC', ou', kd', vl', aV', cY', k1, k2, fun post hp => ⟨hin, nm_r e1 (sp_op hm hC hz hlo hmm hpl f2 (br_f n6 ⟨hi2, ?_⟩))⟩, fun post hp => ⟨hin, nm_r e2 (sp_kd hm p1 ?_)⟩⟩
      · rw [ei]
        exact br_t (nI_lt (b := 16) h16 (by decide)) (k3 post hp)
      · rw [f1]
        exact br_t (nI_lt (b := 16) h16 (by decide)) (k4 post hp)
    · obtain ⟨w1, w2⟩ := h7' (by omega)
      obtain ⟨mO', mA', st', ct', aO', aA', oC', ou', kd', vl', aV', cY', k1, k2, k3, k4⟩ := sp_al (mM := mM) (mS := mS) (mI := mI) (mc := mc) (sc := sc) (lc := lc) (ar := ar) (bd := bd) (bv := bv) (mo := mo) (y := y) (fo := fo) (nN := nN) (od := od) (fa := fa) (fn := fn) (qc := qc) (po := po) (wn := wn) (rt := rt) (qu := qu) (pa := pa) (ou := ou) (rY := rY) (st := st) (e := c - 8) (a := lk_mp ba m (vl (128 * m + p))) (v := vl (128 * m + p)) hm hC hz hlo hmm hrg hpl (fun _ _ => Nat.lt_of_not_le (fun q => (h64 q).elim (fun _ => by omega) (fun _ => by omega))) hF hl hzc rfl (by unfold fd_op at hop; omega) (fun q => absurd q (by omega)) (fun _ => ⟨w1, rfl⟩)
      refine ⟨mO', mA', st', ct', aO', aA', oC', ou', kd', vl', aV', cY', k1, k2, fun post hp => ⟨hin, nm_r e1 (sp_op hm hC hz hlo hmm hpl f2 (br_f n6 ⟨hi2, ?_⟩))⟩, fun post hp => ⟨hin, nm_r e2 (sp_kd hm p1 ?_)⟩⟩
      · rw [ei]
        refine br_f (nI_nlt (b := 16) (by omega) (by omega)) (nm_r (sp_m8 (by omega)) ?_)
        have hmm2 : m = 0 ∨ m = 1 := by omega
        rcases hmm2 with rfl | rfl
        · refine br_t rfl (nm_r (e' := lk_mp ba 0 (vl (128 * 0 + p))) ?_ (k3 post hp))
          rw [w2, if_pos ⟨rfl, by omega⟩, h2, h4 rfl, sp_sa]
        · rw [if_neg (by omega)] at w2
          rw [w2]
          exact br_f (by decide) (k3 post hp)
      · rw [f1]
        exact br_f (nI_nlt (b := 16) (by omega) (by omega)) (nm_r (sp_m8 (by omega)) (k4 post hp))
/-! run -/
theorem sp_ry {post : Int32 → SY → Prop} {s : Nat} (hm : m < 2) (hs : s ≤ 64) (h0 : ¬ st m = 0) (hp : post (st m) (nI mM, nI mS, nI mI, nI mc, nI sc, 1, nI lc, nI C, na_v ar, na_v mo, na_v y, na_v fo, na_v nN, fa, na_v bd, na_v bv, na_v od, ly, rY, kd, vl, ou, st, aO, aV, cY, oC)) : ∀ d i f, i + d = s → d < f → wY_run_33 post (nI m) (nI s) f (nI i) (nI mM) (nI mS) (nI mI) (nI mc) (nI sc) 1 (nI lc) (nI C) (na_v ar) (na_v mo) (na_v y) (na_v fo) (na_v nN) fa (na_v bd) (na_v bv) (na_v od) ly rY kd vl ou st aO aV cY oC := by
  have hin : vp_in (nI m) 2 := vp_in_nI hm (by decide)
  have ec : (nI m).toNatClampNeg = m := nI_clamp (by omega)
  intro d
  induction d with
  | zero =>
    intro i f hi hf
    obtain ⟨f, rfl⟩ := na_fu hf
    exact pk_le s i (fun _ => ⟨hin, by rw [ec]; exact hp⟩) (fun h => absurd h (by omega))
  | succ d ih =>
    intro i f hi hf
    obtain ⟨f, rfl⟩ := na_fu hf
    exact pk_le s i (fun h => absurd h (by omega)) (fun _ => ⟨hin, br_f (by rw [ec]; exact h0) (nm_r (nI_1 i) (ih (i + 1) f (by omega) (by omega)))⟩)
theorem sp_ru {s : Nat} (hm : m < 2) (hC : C ≤ 128) (hz : ∀ i, z i ≤ 8) (hlo : lo_ok z C ba ly) (hF : fd_ok mM mS mI mc sc ar bd bv mo z y fo nN od fa fn) (hl : lc ≤ 8) (hzc : ∀ n, n < 8 → z (8 + n) = wi_cm bd bv od n lc) (hs : s ≤ 64) :
    ∀ (d i : Nat) (mO mA st ct aO aA oC ou kd vl aV cY : Nat → Int32), i + d = s → mm_ok z C ba ly mO mA kd vl → rg_ok z ba ct cY aO aA aV oC →
    ∃ (mO' mA' st' ct' aO' aA' oC' ou' kd' vl' aV' cY' : Nat → Int32), mm_ok z C ba ly mO' mA' kd' vl' ∧ rg_ok z ba ct' cY' aO' aA' aV' oC' ∧
      (∀ (post : Int32 → SX → Prop) (f : Nat), d < f → post (st' m) (0, 6, 7, nI mM, nI mS, nI mI, nI mc, nI sc, 1, nI lc, qc, nI C, na_v ar, na_v bd, na_v bv, na_v mo, na_v z, na_v fo, fa, fn, na_v od, po, wn, rt, qu, ba, pa, mO', mA', st', ct', aO', aA', oC', ou') → wX_run_34 post (nI m) (nI s) f (nI i) 0 6 7 (nI mM) (nI mS) (nI mI) (nI mc) (nI sc) 1 (nI lc) qc (nI C) (na_v ar) (na_v bd) (na_v bv) (na_v mo) (na_v z) (na_v fo) fa fn (na_v od) po wn rt qu ba pa mO mA st ct aO aA oC ou) ∧
      (∀ (post : Int32 → SY → Prop) (f : Nat), d < f → post (st' m) (nI mM, nI mS, nI mI, nI mc, nI sc, 1, nI lc, nI C, na_v ar, na_v mo, na_v y, na_v fo, na_v nN, fa, na_v bd, na_v bv, na_v od, ly, rY, kd', vl', ou', st', aO', aV', cY', oC') → wY_run_33 post (nI m) (nI s) f (nI i) (nI mM) (nI mS) (nI mI) (nI mc) (nI sc) 1 (nI lc) (nI C) (na_v ar) (na_v mo) (na_v y) (na_v fo) (na_v nN) fa (na_v bd) (na_v bv) (na_v od) ly rY kd vl ou st aO aV cY oC) := by
  have hin : vp_in (nI m) 2 := vp_in_nI hm (by decide)
  have ec : (nI m).toNatClampNeg = m := nI_clamp (by omega)
  intro d
  induction d with
  | zero =>
    intro i mO mA st ct aO aA oC ou kd vl aV cY hi hmm hrg
    refine ⟨mO, mA, st, ct, aO, aA, oC, ou, kd, vl, aV, cY, hmm, hrg, fun post f hf hp => ?_, fun post f hf hp => ?_⟩
    · obtain ⟨f, rfl⟩ := na_fu hf
      exact pk_le s i (fun _ => ⟨hin, by rw [ec]; exact hp⟩) (fun h => absurd h (by omega))
    · obtain ⟨f, rfl⟩ := na_fu hf
      exact pk_le s i (fun _ => ⟨hin, by rw [ec]; exact hp⟩) (fun h => absurd h (by omega))
  | succ d ih =>
    intro i mO mA st ct aO aA oC ou kd vl aV cY hi hmm hrg
    by_cases h0 : st m = 0
    · obtain ⟨mO1, mA1, st1, ct1, aO1, aA1, oC1, ou1, kd1, vl1, aV1, cY1, a1, a2, a3, a4⟩ := sp_st (mM := mM) (mS := mS) (mI := mI) (mc := mc) (sc := sc) (lc := lc) (ar := ar) (bd := bd) (bv := bv) (mo := mo) (y := y) (fo := fo) (nN := nN) (od := od) (fa := fa) (fn := fn) (qc := qc) (po := po) (wn := wn) (rt := rt) (qu := qu) (pa := pa) (rY := rY) (st := st) (ou := ou) hm hC hz hlo hF hl hzc hmm hrg
      obtain ⟨mO2, mA2, st2, ct2, aO2, aA2, oC2, ou2, kd2, vl2, aV2, cY2, b1, b2, b3, b4⟩ := ih (i + 1) mO1 mA1 st1 ct1 aO1 aA1 oC1 ou1 kd1 vl1 aV1 cY1 (by omega) a1 a2
      refine ⟨mO2, mA2, st2, ct2, aO2, aA2, oC2, ou2, kd2, vl2, aV2, cY2, b1, b2, fun post f hf hp => ?_, fun post f hf hp => ?_⟩
      · obtain ⟨f, rfl⟩ := na_fu hf
        exact pk_le s i (fun h => absurd h (by omega)) (fun _ => ⟨hin, br_t (by rw [ec]; exact h0) (a3 _ (nm_r (nI_1 i) (b3 post f (by omega) hp)))⟩)
      · obtain ⟨f, rfl⟩ := na_fu hf
        exact pk_le s i (fun h => absurd h (by omega)) (fun _ => ⟨hin, br_t (by rw [ec]; exact h0) (a4 _ (nm_r (nI_1 i) (b4 post f (by omega) hp)))⟩)
    · refine ⟨mO, mA, st, ct, aO, aA, oC, ou, kd, vl, aV, cY, hmm, hrg, fun post f hf hp => ?_, fun post f hf hp => sp_ry hm hs h0 hp (d + 1) i f hi hf⟩
      obtain ⟨f, rfl⟩ := na_fu hf
      exact pk_le s i (fun h => absurd h (by omega)) (fun _ => ⟨hin, br_f (by rw [ec]; exact h0) ⟨hin, by rw [ec]; exact hp⟩⟩)
end
end
section
section
variable {mM mS mI mc sc lc : Nat} {ar bd bv mo z y fo nN od : Nat → Nat} {L qc cc cl : Int32} {fa fn po wn rt qu ba pa mO mA st ct aO aA oC ou ly rY kd vl aV cY : Nat → Int32}
theorem ge_run {k : Nat} (v1 v2 : Int32) (hF : fd_ok mM mS mI mc sc ar bd bv mo z y fo nN od fa fn) (hL : L = 0 ∨ (L = 1 ∧ lk_all mc lc bd bv z od cc cl po wn ba pa mO mA ct aO aA oC ly kd vl aV cY)) :
    wpX_run (fun r u' => wpY_run (fun r' v' => r' = r ∧ i_Rel k u' v') (nI mM, nI mS, nI mI, nI mc, nI sc, L, nI lc, cl, na_v ar, na_v mo, na_v y, na_v fo, na_v nN, fa, na_v bd, na_v bv, na_v od, ly, rY, kd, vl, ou, st, aO, aV, cY, oC) v1 v2) (0, 6, 7, nI mM, nI mS, nI mI, nI mc, nI sc, L, nI lc, qc, cc, na_v ar, na_v bd, na_v bv, na_v mo, na_v z, na_v fo, fa, fn, na_v od, po, wn, rt, qu, ba, pa, mO, mA, st, ct, aO, aA, oC, ou) v1 v2 := by
  unfold wpX_run
  rcases ge_mach v1 with ⟨m, hm, rfl⟩ | ⟨g0, g1, g2 | ⟨g2, g3⟩⟩
  · have q0 : ¬ nI m < 0 := nI_pos (by omega)
    have q1 : ¬ (1 : Int32) < nI m := nI_nlt (a := 1) (by omega) (by decide)
    refine ge_im hm (br_f (by decide) ?_)
    by_cases h0 : v2 < 0
    · exact br_t h0 (br_f q0 (br_f q1 (br_t h0 ⟨rfl, zz_in hF hL⟩)))
    by_cases h64 : v2 ≤ 64
    · obtain ⟨s, hs, rfl⟩ := na_bt (N := 64) h0 h64 (by decide)
      have hz : ∀ i, z i ≤ 8 := hF.2.2.2.2.2.2.2.2.1
      rcases hL with rfl | ⟨rfl, C, ⟨rfl, rfl, hC⟩, hld, hnd, hwn, hzc, hlo, hpa, hmm, hrg⟩
      · exact br_f h0 (br_t h64 (br_t rfl (br_f q0 (br_f q1 (br_f h0 (br_t h64 (br_t rfl ⟨rfl, zz_in hF (Or.inl rfl)⟩)))))))
      · obtain ⟨mO', mA', st', ct', aO', aA', oC', ou', kd', vl', aV', cY', k1, k2, k3, k4⟩ := sp_ru (qc := qc) (po := po) (wn := wn) (rt := rt) (qu := qu) (pa := pa) (rY := rY) (m := m) (s := s) hm hC hz hlo hF hld.1 hzc hs s 0 mO mA st ct aO aA oC ou kd vl aV cY (by omega) hmm hrg
        refine br_f h0 (br_t h64 (br_f (by decide) ⟨s + 1, k3 _ (s + 1) (by omega) ?_⟩))
        refine br_f q0 (br_f q1 (br_f h0 (br_t h64 (br_f (by decide) ⟨s + 1, k4 _ (s + 1) (by omega) ⟨rfl, ?_⟩⟩))))
        exact zz_in hF (Or.inr ⟨rfl, C, ⟨rfl, rfl, hC⟩, hld, hnd, hwn, hzc, hlo, hpa, k1, k2⟩)
    · exact br_f h0 (br_f h64 (br_f q0 (br_f q1 (br_f h0 (br_f h64 ⟨rfl, zz_in hF hL⟩)))))
  · exact ge_in g0 g1 (br_t rfl (br_t g2 ⟨rfl, zz_in hF hL⟩))
  · exact ge_in g0 g1 (br_t rfl (br_f g2 (br_t g3 ⟨rfl, zz_in hF hL⟩)))
end
theorem i_vc_run {k : Nat} {u : SX} {v : SY} (I : i_Rel k u v) (hk : k + 4 ≤ 2051) (v1 : Int32) (v2 : Int32) : wpX_run (fun r u' => wpY_run (fun r' v' => r' = r ∧ i_Rel (k + 4) u' v') v v1 v2) u v1 v2 :=
  zz_el (P := fun u v => wpX_run (fun r u' => wpY_run (fun r' v' => r' = r ∧ i_Rel (k + 4) u' v') v v1 v2) u v1 v2) (fun hF hL => ge_run v1 v2 hF hL) I
end
section
/-! loading: pure -/
def ld_w (bd od : Nat → Nat) (n : Nat) : Nat → Nat → Nat → Nat
  | 0, _, c => c
  | k + 1, i, c => if bd (8 * od i + n) < 4 then (if bd (8 * od i + n) = 1 then ld_w bd od n k (i + 1) 1 else ld_w bd od n k (i + 1) c) else 0
theorem ld_w_le {bd od : Nat → Nat} {n : Nat} : ∀ k i c, c ≤ 1 → ld_w bd od n k i c ≤ 1
  | 0, _, _, h => h
  | k + 1, i, c, h => by
    show (if bd (8 * od i + n) < 4 then (if bd (8 * od i + n) = 1 then ld_w bd od n k (i + 1) 1 else ld_w bd od n k (i + 1) c) else 0) ≤ 1
    split
    · split
      · exact ld_w_le k _ _ (by decide)
      · exact ld_w_le k _ _ h
    · decide
def ld_wt (bd od : Nat → Nat) (lc e n : Nat) : Nat := ld_w bd od n lc 0 (if n = e then 1 else 0)
theorem ld_wt_le {bd od : Nat → Nat} {lc e n : Nat} : ld_wt bd od lc e n ≤ 1 := ld_w_le _ _ _ (by split <;> decide)
def ld_s (bd od : Nat → Nat) (lc e m : Nat) : Nat → Nat → Nat
  | 0, _ => 0
  | k + 1, n => if (bd (8 * m + n) = 4 ∨ bd (8 * m + n) = 5) ∧ ld_wt bd od lc e n ≠ 0 then 1 else ld_s bd od lc e m k (n + 1)
theorem ld_s_le {bd od : Nat → Nat} {lc e m : Nat} : ∀ k n, ld_s bd od lc e m k n ≤ 1
  | 0, _ => by show 0 ≤ 1; decide
  | k + 1, n => by
    show (if (bd (8 * m + n) = 4 ∨ bd (8 * m + n) = 5) ∧ ld_wt bd od lc e n ≠ 0 then 1 else ld_s bd od lc e m k (n + 1)) ≤ 1
    split
    · decide
    · exact ld_s_le k _
def ld_in (od : Nat → Nat) (m : Nat) : Nat → Bool
  | 0 => false
  | l + 1 => ld_in od m l || decide (od l = m)
theorem ld_in_t {od : Nat → Nat} {m : Nat} : ∀ l, ld_in od m l = true ↔ ∃ i, i < l ∧ od i = m
  | 0 => ⟨fun h => absurd (show false = true from h) (by decide), fun ⟨i, h, _⟩ => absurd h (by omega)⟩
  | l + 1 => by
    show (ld_in od m l || decide (od l = m)) = true ↔ _
    rw [Bool.or_eq_true, ld_in_t l, decide_eq_true_eq]
    constructor
    · rintro (⟨i, h1, h2⟩ | h)
      · exact ⟨i, by omega, h2⟩
      · exact ⟨l, by omega, h⟩
    · rintro ⟨i, h1, h2⟩
      by_cases e : i = l
      · subst e; exact Or.inr h2
      · exact Or.inl ⟨i, by omega, h2⟩
theorem ld_in_f {od : Nat → Nat} {m l : Nat} : ld_in od m l = false ↔ ∀ i, i < l → od i ≠ m := by
  constructor
  · intro h i hi e
    have := (ld_in_t l).mpr ⟨i, hi, e⟩
    rw [h] at this
    exact absurd this (by decide)
  · intro h
    cases q : ld_in od m l
    · rfl
    · obtain ⟨i, hi, e⟩ := (ld_in_t l).mp q
      exact absurd e (h i hi)
theorem ld_in_u {od : Nat → Nat} {lc j k : Nat} : ld_in (na_u od lc j) k (lc + 1) = (ld_in od k lc || decide (j = k)) := by
  have h : ∀ l, l ≤ lc → ld_in (na_u od lc j) k l = ld_in od k l := by
    intro l
    induction l with
    | zero => intro _; rfl
    | succ l ih =>
      intro hl
      show (ld_in (na_u od lc j) k l || decide (na_u od lc j l = k)) = (ld_in od k l || decide (od l = k))
      rw [ih (by omega), na_un (by omega)]
  show (ld_in (na_u od lc j) k lc || decide (na_u od lc j lc = k)) = _
  rw [h lc (Nat.le_refl _), na_us]
def ld_u (bd od : Nat → Nat) (lc e m : Nat) : Bool := !(ld_in od m lc) && decide (ld_s bd od lc e m 8 0 ≠ 0)
def ld_pk (u : Nat → Bool) : Nat → Nat → Int32
  | 0, _ => -1
  | k + 1, m => if u m = true then nI m else ld_pk u k (m + 1)
theorem ld_pk_cs {u : Nat → Bool} : ∀ k m, (ld_pk u k m = -1 ∧ ∀ j, m ≤ j → j < m + k → u j = false) ∨ (∃ j, m ≤ j ∧ j < m + k ∧ u j = true ∧ ld_pk u k m = nI j)
  | 0, m => Or.inl ⟨rfl, fun j h1 h2 => absurd h2 (by omega)⟩
  | k + 1, m => by
    show ((if u m = true then nI m else ld_pk u k (m + 1)) = -1 ∧ _) ∨ (∃ j, m ≤ j ∧ j < m + (k + 1) ∧ u j = true ∧ (if u m = true then nI m else ld_pk u k (m + 1)) = nI j)
    by_cases h : u m = true
    · rw [if_pos h]
      exact Or.inr ⟨m, by omega, by omega, h, rfl⟩
    · rw [if_neg h]
      rcases ld_pk_cs k (m + 1) with ⟨a, b⟩ | ⟨j, a, b, c, d⟩
      · refine Or.inl ⟨a, fun j h1 h2 => ?_⟩
        by_cases e : j = m
        · subst e; exact Bool.not_eq_true _ |>.mp h
        · exact b j (by omega) (by omega)
      · exact Or.inr ⟨j, by omega, by omega, c, d⟩
theorem ld_u_t {bd od : Nat → Nat} {lc e m : Nat} (h : ld_u bd od lc e m = true) : ld_in od m lc = false := by
  unfold ld_u at h
  cases q : ld_in od m lc
  · rfl
  · rw [q] at h; exact absurd h (by simp)
section
variable {mM mS mI mc sc lc : Nat} {ar bd bv mo z y fo nN od : Nat → Nat} {L qc cc cl : Int32} {fa fn po wn rt qu ba pa mO mA st ct aO aA oC ou ly rY kd vl aV cY : Nat → Int32}
/-! wanted -/
theorem ld_xw {post : Int32 → Prop} {n : Nat} (hn : n < 8) (hl : lc ≤ 8) (ho : ∀ i, od i < 8) (hb6 : ∀ i, bd i ≤ 6) :
    ∀ k i c f, i + k = lc → k < f → c ≤ 1 → post (nI (ld_w bd od n k i c)) → wX_isWanted_14 post (nI n) 0 6 7 (nI mM) (nI mS) (nI mI) (nI mc) (nI sc) L (nI lc) qc cc (na_v ar) (na_v bd) (na_v bv) (na_v mo) (na_v z) (na_v fo) fa fn (na_v od) po wn rt qu ba pa mO mA st ct aO aA oC ou f (nI c) (nI i) := by
  intro k
  induction k with
  | zero =>
    intro i c f hi hf hc hp
    obtain ⟨f, rfl⟩ := na_fu hf
    exact pk_le lc i (fun _ => ⟨na_nb hc, hp⟩) (fun h => absurd h (by omega))
  | succ k ih =>
    intro i c f hi hf hc hp
    obtain ⟨f, rfl⟩ := na_fu hf
    have hoi := ho i
    have hb := hb6 (8 * od i + n)
    have hin : vp_in (8 * (na_v od (nI i).toNatClampNeg) + nI n) 64 := na_in (na_ix (by omega)) (by omega) (by decide)
    unfold ld_w at hp
    refine pk_le lc i (fun h => absurd h (by omega)) (fun _ => ⟨vp_in_nI (by omega) (by decide), hin, nm_r (na_rb (by omega) (by omega)) (pk_lt (bd (8 * od i + n)) 4 (fun h => ?_) (fun h => ?_))⟩)
    · rw [if_pos h] at hp
      refine pk_eq (bd (8 * od i + n)) 1 (fun h1 => nm_r (nI_1 i) ?_) (fun h1 => nm_r (nI_1 i) ?_)
      · rw [if_pos h1] at hp
        exact ih (i + 1) 1 f (by omega) (by omega) (by decide) hp
      · rw [if_neg h1] at hp
        exact ih (i + 1) c f (by omega) (by omega) hc hp
    · rw [if_neg (by omega)] at hp
      exact hp
theorem ld_yw {post : Int32 → Prop} {n : Nat} (hn : n < 8) (hl : lc ≤ 8) (ho : ∀ i, od i < 8) (hb6 : ∀ i, bd i ≤ 6) :
    ∀ k i c f, i + k = lc → k < f → c ≤ 1 → post (nI (ld_w bd od n k i c)) → wY_wanted_14 post (nI n) (nI mM) (nI mS) (nI mI) (nI mc) (nI sc) L (nI lc) cl (na_v ar) (na_v mo) (na_v y) (na_v fo) (na_v nN) fa (na_v bd) (na_v bv) (na_v od) ly rY kd vl ou st aO aV cY oC f (nI c) (nI i) := by
  intro k
  induction k with
  | zero =>
    intro i c f hi hf hc hp
    obtain ⟨f, rfl⟩ := na_fu hf
    exact pk_le lc i (fun _ => ⟨na_nb hc, hp⟩) (fun h => absurd h (by omega))
  | succ k ih =>
    intro i c f hi hf hc hp
    obtain ⟨f, rfl⟩ := na_fu hf
    have hoi := ho i
    have hb := hb6 (8 * od i + n)
    have hin : vp_in (8 * (na_v od (nI i).toNatClampNeg) + nI n) 64 := na_in (na_ix (by omega)) (by omega) (by decide)
    have hi8 : vp_in (nI i) 8 := vp_in_nI (by omega) (by decide)
    unfold ld_w at hp
    refine pk_le lc i (fun h => absurd h (by omega)) (fun _ => ⟨hi8, hin, pk_lt (bd (8 * od i + n)) 4 (fun h => ⟨hi8, hin, ?_⟩) (fun h => ?_) (na_rb (by omega) (by omega))⟩)
    · rw [if_pos h] at hp
      refine pk_eq (bd (8 * od i + n)) 1 (fun h1 => nm_r (nI_1 i) ?_) (fun h1 => nm_r (nI_1 i) ?_) (na_rb (by omega) (by omega))
      · rw [if_pos h1] at hp
        exact ih (i + 1) 1 f (by omega) (by omega) (by decide) hp
      · rw [if_neg h1] at hp
        exact ih (i + 1) c f (by omega) (by omega) hc hp
    · rw [if_neg (by omega)] at hp
      exact hp
theorem ld_xi {post : Int32 → Prop} {n e : Nat} (hn : n < 8) (he : e < 8) (hl : lc ≤ 8) (ho : ∀ i, od i < 8) (hb6 : ∀ i, bd i ≤ 6) (hp : post (nI (ld_wt bd od lc e n))) : wpX_isWanted post (0, 6, 7, nI mM, nI mS, nI mI, nI mc, nI sc, L, nI lc, qc, cc, na_v ar, na_v bd, na_v bv, na_v mo, na_v z, na_v fo, fa, fn, na_v od, po, wn, rt, qu, ba, pa, mO, mA, st, ct, aO, aA, oC, ou) (nI n) (nI e) := by
  unfold ld_wt at hp
  refine pk_eq n e (fun h => ⟨lc + 1, ?_⟩) (fun h => ⟨lc + 1, ?_⟩)
  · rw [if_pos h] at hp
    exact ld_xw hn hl ho hb6 lc 0 1 (lc + 1) (by omega) (by omega) (by decide) hp
  · rw [if_neg h] at hp
    exact ld_xw hn hl ho hb6 lc 0 0 (lc + 1) (by omega) (by omega) (by decide) hp
theorem ld_yi {post : Int32 → Prop} {n e : Nat} (hn : n < 8) (he : e < 8) (hl : lc ≤ 8) (ho : ∀ i, od i < 8) (hb6 : ∀ i, bd i ≤ 6) (hp : post (nI (ld_wt bd od lc e n))) : wpY_wanted post (nI mM, nI mS, nI mI, nI mc, nI sc, L, nI lc, cl, na_v ar, na_v mo, na_v y, na_v fo, na_v nN, fa, na_v bd, na_v bv, na_v od, ly, rY, kd, vl, ou, st, aO, aV, cY, oC) (nI n) (nI e) := by
  unfold ld_wt at hp
  refine pk_eq n e (fun h => ⟨lc + 1, ?_⟩) (fun h => ⟨lc + 1, ?_⟩)
  · rw [if_pos h] at hp
    exact ld_yw hn hl ho hb6 lc 0 1 (lc + 1) (by omega) (by omega) (by decide) hp
  · rw [if_neg h] at hp
    exact ld_yw hn hl ho hb6 lc 0 0 (lc + 1) (by omega) (by omega) (by decide) hp
/-! supplies -/
theorem ld_xs {post : Int32 → Prop} {m e : Nat} (hm : m < 8) (he : e < 8) (hl : lc ≤ 8) (ho : ∀ i, od i < 8) (hb6 : ∀ i, bd i ≤ 6) :
    ∀ k n f, n + k = 8 → k < f → post (nI (ld_s bd od lc e m k n)) → wX_suppliesWanted_2 post (nI m) (nI e) 0 6 7 (nI mM) (nI mS) (nI mI) (nI mc) (nI sc) L (nI lc) qc cc (na_v ar) (na_v bd) (na_v bv) (na_v mo) (na_v z) (na_v fo) fa fn (na_v od) po wn rt qu ba pa mO mA st ct aO aA oC ou f (nI n) := by
  intro k
  induction k with
  | zero =>
    intro n f hi hf hp
    obtain ⟨f, rfl⟩ := na_fu hf
    exact pk_le 8 n (fun _ => hp) (fun h => absurd h (by omega))
  | succ k ih =>
    intro n f hi hf hp
    obtain ⟨f, rfl⟩ := na_fu hf
    have hb := hb6 (8 * m + n)
    have hw := ld_wt_le (bd := bd) (od := od) (lc := lc) (e := e) (n := n)
    have hin : vp_in (8 * nI m + nI n) 64 := na_in (na_8 m n) (by omega) (by decide)
    unfold ld_s at hp
    have K : (bd (8 * m + n) = 4 ∨ bd (8 * m + n) = 5) → wX_suppliesWanted_33 post (wX_suppliesWanted_2 post (nI m) (nI e) 0 6 7 (nI mM) (nI mS) (nI mI) (nI mc) (nI sc) L (nI lc) qc cc (na_v ar) (na_v bd) (na_v bv) (na_v mo) (na_v z) (na_v fo) fa fn (na_v od) po wn rt qu ba pa mO mA st ct aO aA oC ou f) (nI m) (nI e) (nI n) 0 6 7 (nI mM) (nI mS) (nI mI) (nI mc) (nI sc) L (nI lc) qc cc (na_v ar) (na_v bd) (na_v bv) (na_v mo) (na_v z) (na_v fo) fa fn (na_v od) po wn rt qu ba pa mO mA st ct aO aA oC ou := by
      intro h45
      unfold wX_suppliesWanted_33
      refine ld_xi (by omega) he hl ho hb6 (pk_eq (ld_wt bd od lc e n) 0 (fun h0 => nm_r (nI_1 n) (ih (n + 1) f (by omega) (by omega) ?_)) (fun h0 => ?_))
      · rw [if_neg (fun q => q.2 h0)] at hp; exact hp
      · rw [if_pos ⟨h45, h0⟩] at hp; exact hp
    refine pk_le 8 n (fun h => absurd h (by omega)) (fun _ => ⟨hin, nm_r (na_rs (by omega)) (pk_eq (bd (8 * m + n)) 4 (fun h => K (Or.inl h)) (fun h4 => pk_eq (bd (8 * m + n)) 5 (fun h => K (Or.inr h)) (fun h5 => nm_r (nI_1 n) (ih (n + 1) f (by omega) (by omega) ?_))))⟩)
    rw [if_neg (fun q => q.1.elim h4 h5)] at hp
    exact hp
theorem ld_ysu {post : Int32 → Prop} {m e : Nat} (hm : m < 8) (he : e < 8) (hl : lc ≤ 8) (ho : ∀ i, od i < 8) (hb6 : ∀ i, bd i ≤ 6) :
    ∀ k n f, n + k = 8 → k < f → post (nI (ld_s bd od lc e m k n)) → wY_useful_12 post (nI m) (nI e) (nI mM) (nI mS) (nI mI) (nI mc) (nI sc) L (nI lc) cl (na_v ar) (na_v mo) (na_v y) (na_v fo) (na_v nN) fa (na_v bd) (na_v bv) (na_v od) ly rY kd vl ou st aO aV cY oC f (nI n) := by
  intro k
  induction k with
  | zero =>
    intro n f hi hf hp
    obtain ⟨f, rfl⟩ := na_fu hf
    exact pk_le 8 n (fun _ => hp) (fun h => absurd h (by omega))
  | succ k ih =>
    intro n f hi hf hp
    obtain ⟨f, rfl⟩ := na_fu hf
    have hb := hb6 (8 * m + n)
    have hw := ld_wt_le (bd := bd) (od := od) (lc := lc) (e := e) (n := n)
    have hin : vp_in (8 * nI m + nI n) 64 := na_in (na_8 m n) (by omega) (by decide)
    unfold ld_s at hp
    have K : (bd (8 * m + n) = 4 ∨ bd (8 * m + n) = 5) → wY_useful_48 post (wY_useful_12 post (nI m) (nI e) (nI mM) (nI mS) (nI mI) (nI mc) (nI sc) L (nI lc) cl (na_v ar) (na_v mo) (na_v y) (na_v fo) (na_v nN) fa (na_v bd) (na_v bv) (na_v od) ly rY kd vl ou st aO aV cY oC f) (nI m) (nI e) (nI n) (nI mM) (nI mS) (nI mI) (nI mc) (nI sc) L (nI lc) cl (na_v ar) (na_v mo) (na_v y) (na_v fo) (na_v nN) fa (na_v bd) (na_v bv) (na_v od) ly rY kd vl ou st aO aV cY oC := by
      intro h45
      unfold wY_useful_48
      refine ld_yi (by omega) he hl ho hb6 (pk_eq (ld_wt bd od lc e n) 0 (fun h0 => nm_r (nI_1 n) (ih (n + 1) f (by omega) (by omega) ?_)) (fun h0 => ?_))
      · rw [if_neg (fun q => q.2 h0)] at hp; exact hp
      · rw [if_pos ⟨h45, h0⟩] at hp; exact hp
    refine pk_le 8 n (fun h => absurd h (by omega)) (fun _ => ⟨hin, pk_eq (bd (8 * m + n)) 4 (fun h => K (Or.inl h)) (fun h4 => ⟨hin, pk_eq (bd (8 * m + n)) 5 (fun h => K (Or.inr h)) (fun h5 => nm_r (nI_1 n) (ih (n + 1) f (by omega) (by omega) ?_)) (na_rs (by omega))⟩) (na_rs (by omega))⟩)
    rw [if_neg (fun q => q.1.elim h4 h5)] at hp
    exact hp
/-! X's usefulMember, Y's useful -/
theorem ld_xu {post : Int32 → Prop} {e E : Nat} (hE : E ≤ 8) (he : e < 8) (hl : lc ≤ 8) (ho : ∀ i, od i < 8) (hb6 : ∀ i, bd i ≤ 6) (hpo : ld_po lc od po) :
    ∀ k m f, m + k = E → k < f → post (ld_pk (ld_u bd od lc e) k m) → wX_usefulMember_3 post (nI E) (nI e) 0 6 7 (nI mM) (nI mS) (nI mI) (nI mc) (nI sc) L (nI lc) qc cc (na_v ar) (na_v bd) (na_v bv) (na_v mo) (na_v z) (na_v fo) fa fn (na_v od) po wn rt qu ba pa mO mA st ct aO aA oC ou f (nI m) := by
  intro k
  induction k with
  | zero =>
    intro m f hi hf hp
    obtain ⟨f, rfl⟩ := na_fu hf
    exact pk_le E m (fun _ => hp) (fun h => absurd h (by omega))
  | succ k ih =>
    intro m f hi hf hp
    obtain ⟨f, rfl⟩ := na_fu hf
    unfold ld_pk at hp
    refine pk_le E m (fun h => absurd h (by omega)) (fun _ => ⟨vp_in_nI (by omega) (by decide), ?_⟩)
    rw [nI_clamp (by omega)]
    rcases hpo m (by omega) with ⟨a, b⟩ | ⟨i, a, b, c⟩
    · have hin := ld_in_f.mpr a
      refine br_f (by rw [b]; exact na_m1le) ⟨9, ld_xs (by omega) he hl ho hb6 8 0 9 (by omega) (by omega) ?_⟩
      have hs := ld_s_le (bd := bd) (od := od) (lc := lc) (e := e) (m := m) 8 0
      refine pk_eq (ld_s bd od lc e m 8 0) 0 (fun h0 => nm_r (nI_1 m) (ih (m + 1) f (by omega) (by omega) ?_)) (fun h0 => ?_)
      · have hu : ld_u bd od lc e m = false := by
          unfold ld_u
          rw [h0]; simp
        rw [hu, if_neg (by decide)] at hp
        exact hp
      · have hu : ld_u bd od lc e m = true := by
          unfold ld_u
          rw [hin, decide_eq_true h0]; rfl
        rw [hu, if_pos rfl] at hp
        exact hp
    · have hin := (ld_in_t lc).mpr ⟨i, a, b⟩
      refine br_t (by rw [c]; exact nI_pos' (by omega)) (nm_r (nI_1 m) (ih (m + 1) f (by omega) (by omega) ?_))
      have hu : ld_u bd od lc e m = false := by
        unfold ld_u
        rw [hin]; rfl
      rw [hu, if_neg (by decide)] at hp
      exact hp
theorem ld_yu {post : Int32 → Prop} {m e : Nat} (hm : m < 8) (he : e < 8) (hl : lc ≤ 8) (ho : ∀ i, od i < 8) (hb6 : ∀ i, bd i ≤ 6) (hd : ∀ i j, i < lc → j < lc → od i = od j → i = j)
    (h1 : ld_u bd od lc e m = true → post 1) (h0 : ld_u bd od lc e m = false → post 0) : wpY_useful post (nI mM, nI mS, nI mI, nI mc, nI sc, L, nI lc, cl, na_v ar, na_v mo, na_v y, na_v fo, na_v nN, fa, na_v bd, na_v bv, na_v od, ly, rY, kd, vl, ou, st, aO, aV, cY, oC) (nI m) (nI e) := by
  unfold wpY_useful
  cases q : ld_in od m lc
  · have hq := ld_in_f.mp q
    refine ld_y0 hl (fun i hi e => hq i hi (na_im e (by have := ho i; omega) (by omega))) ?_
    refine br_t na_m1lt ⟨9, ld_ysu hm he hl ho hb6 8 0 9 (by omega) (by omega) ?_⟩
    have hs := ld_s_le (bd := bd) (od := od) (lc := lc) (e := e) (m := m) 8 0
    by_cases hz : ld_s bd od lc e m 8 0 = 0
    · rw [hz]
      refine h0 ?_
      unfold ld_u
      rw [hz]; simp
    · have h11 : ld_s bd od lc e m 8 0 = 1 := by omega
      rw [h11]
      refine h1 ?_
      unfold ld_u
      rw [q, decide_eq_true hz]; rfl
  · obtain ⟨i, hi, e1⟩ := (ld_in_t lc).mp q
    refine ld_y1 (j := i) hl hi (by rw [e1]) (fun i' hi' e2 => ?_) ?_
    · have h3 := ho i'
      have := hd i' i (by omega) hi ((na_im e2 (by omega) (by omega)).trans e1.symm)
      omega
    · refine br_f (nI_pos (by omega)) (h0 ?_)
      unfold ld_u
      rw [q]; rfl
end
end
section
/-! the loading order grows -/
def ld_li (b lc : Nat) (od : Nat → Nat) (po : Nat → Int32) : Prop :=
  lc ≤ b ∧ (∀ i, i < lc → od i < b) ∧ (∀ i j, i < lc → j < lc → od i = od j → i = j) ∧ ld_po lc od po ∧ (∀ i, od i < 8)
theorem ld_li_up {b lc j : Nat} {od : Nat → Nat} {po : Nat → Int32} (h : ld_li b lc od po) (hj : j < b) (hj8 : j < 8) (hn : ∀ i, i < lc → od i ≠ j) (hl : lc < b) : ld_li b (lc + 1) (na_u od lc j) (upd po j (nI lc)) := by
  obtain ⟨h1, h2, h3, h4, h5⟩ := h
  refine ⟨by omega, fun i hi => ?_, fun i i' hi hi' e => ?_, fun k hk => ?_, fun i => ?_⟩
  · unfold na_u; split
    · exact hj
    · exact h2 i (by omega)
  · by_cases e1 : i = lc
    · by_cases e2 : i' = lc
      · omega
      · subst e1
        rw [na_us, na_un e2] at e
        exact absurd e.symm (hn i' (by omega))
    · by_cases e2 : i' = lc
      · subst e2
        rw [na_us, na_un e1] at e
        exact absurd e (hn i (by omega))
      · rw [na_un e1, na_un e2] at e
        exact h3 i i' (by omega) (by omega) e
  · by_cases e : k = j
    · subst e
      exact Or.inr ⟨lc, by omega, na_us, pk_us⟩
    · rcases h4 k hk with ⟨a, c⟩ | ⟨i, a, c, d⟩
      · refine Or.inl ⟨fun i hi => ?_, by rw [pk_un e]; exact c⟩
        by_cases e1 : i = lc
        · subst e1
          rw [na_us]; exact fun q => e q.symm
        · rw [na_un e1]; exact a i (by omega)
      · exact Or.inr ⟨i, by omega, by rw [na_un (by omega)]; exact c, by rw [pk_un e]; exact d⟩
  · unfold na_u; split
    · exact hj8
    · exact h5 i
/-- an archive's end -/
def ld_en (mc : Nat) (ar : Nat → Nat) (m E : Nat) : Prop := m < E ∧ E ≤ mc ∧ (∀ k, m ≤ k → k < E → ar k = ar m) ∧ (E = mc ∨ ar E ≠ ar m)
theorem ld_ex {mc : Nat} {ar : Nat → Nat} {m : Nat} : ∀ d s, s + d = mc → m < s → (∀ k, m ≤ k → k < s → ar k = ar m) → ∃ E, ld_en mc ar m E
  | 0, s, h1, h2, h3 => ⟨s, h2, by omega, h3, Or.inl (by omega)⟩
  | d + 1, s, h1, h2, h3 => by
    by_cases e : ar s = ar m
    · refine ld_ex d (s + 1) (by omega) (by omega) (fun k a b => ?_)
      by_cases e2 : k = s
      · rw [e2]; exact e
      · exact h3 k a (by omega)
    · exact ⟨s, h2, by omega, h3, Or.inr e⟩
theorem ld_cf {f : Nat → Bool} {m : Nat} : ∀ k, m ≤ k → (∀ j, j < m → f j = true) → (∀ j, m ≤ j → j < k → f j = false) → na_cn f k = m := by
  intro k
  induction k with
  | zero =>
    intro h _ _
    show 0 = m
    omega
  | succ k ih =>
    intro h h1 h2
    show na_cn f k + (if f k = true then 1 else 0) = m
    by_cases e : m = k + 1
    · subst e
      have hall : ∀ i, i ≤ k + 1 → na_cn f i = i := by
        intro i
        induction i with
        | zero => intro _; rfl
        | succ i ih2 =>
          intro hi
          show na_cn f i + (if f i = true then 1 else 0) = i + 1
          rw [ih2 (by omega), if_pos (h1 i (by omega))]
      rw [hall k (by omega), if_pos (h1 k (by omega))]
    · rw [ih (by omega) h1 (fun j a b => h2 j a (by omega)), h2 k (by omega) (by omega), if_neg (by decide)]
      rfl
section
variable {mM mS mI mc sc lc : Nat} {ar bd bv mo z y fo nN od : Nat → Nat} {L qc cc cl : Int32} {fa fn po wn rt qu ba pa mO mA st ct aO aA oC ou ly rY kd vl aV cY : Nat → Int32}
variable {e m E : Nat}
theorem ld_xl {post : SX → Prop} {j : Nat} (hj : j < 8) (hl : lc < 8) (hp : post (0, 6, 7, nI mM, nI mS, nI mI, nI mc, nI sc, L, nI (lc + 1), qc, cc, na_v ar, na_v bd, na_v bv, na_v mo, na_v z, na_v fo, fa, fn, na_v (na_u od lc j), upd po j (nI lc), wn, rt, qu, ba, pa, mO, mA, st, ct, aO, aA, oC, ou)) : wpX_load post (0, 6, 7, nI mM, nI mS, nI mI, nI mc, nI sc, L, nI lc, qc, cc, na_v ar, na_v bd, na_v bv, na_v mo, na_v z, na_v fo, fa, fn, na_v od, po, wn, rt, qu, ba, pa, mO, mA, st, ct, aO, aA, oC, ou) (nI j) :=
  ⟨vp_in_nI hj (by decide), nm_r (na_uc (by omega)) ⟨vp_in_nI hl (by decide), nm_r (na_ui (by omega)) (nm_r (nI_1 lc) hp)⟩⟩
theorem ld_x4 {post : SX → Prop} (hE : ld_en mc ar m E) (hmc : mc ≤ 8) (har : ∀ i, ar i < 8) (hp : ∃ n, wX_pullArchive_36 post (nI m) (nI e) (nI E) n (nI m) 0 6 7 (nI mM) (nI mS) (nI mI) (nI mc) (nI sc) L (nI lc) qc cc (na_v ar) (na_v bd) (na_v bv) (na_v mo) (na_v z) (na_v fo) fa fn (na_v od) po wn rt qu ba pa mO mA st ct aO aA oC ou) :
    ∀ d s f, s + d = E → m < s → d < f → wX_pullArchive_4 post (nI m) (nI e) 0 6 7 (nI mM) (nI mS) (nI mI) (nI mc) (nI sc) L (nI lc) qc cc (na_v ar) (na_v bd) (na_v bv) (na_v mo) (na_v z) (na_v fo) fa fn (na_v od) po wn rt qu ba pa mO mA st ct aO aA oC ou f (nI s) := by
  obtain ⟨e1, e2, e3, e4⟩ := hE
  have am := har m
  intro d
  induction d with
  | zero =>
    intro s f hs hm hf
    obtain ⟨f, rfl⟩ := na_fu hf
    obtain rfl : s = E := by omega
    have as := har s
    refine pk_le mc s (fun _ => hp) (fun h => ⟨vp_in_nI (by omega) (by decide), vp_in_nI (by omega) (by decide), pk_eq (ar s) (ar m) (fun q => ?_) (fun _ => hp) (na_r (by omega)) (na_r (by omega))⟩)
    exact absurd q (e4.resolve_left (by omega))
  | succ d ih =>
    intro s f hs hm hf
    obtain ⟨f, rfl⟩ := na_fu hf
    have as := har s
    exact pk_le mc s (fun h => absurd h (by omega)) (fun h => ⟨vp_in_nI (by omega) (by decide), vp_in_nI (by omega) (by decide), pk_eq (ar s) (ar m) (fun _ => nm_r (nI_1 s) (ih (s + 1) f (by omega) (by omega) (by omega))) (fun q => absurd (e3 s (by omega) (by omega)) q) (na_r (by omega)) (na_r (by omega))⟩)
/-! Y: one round -/
theorem ld_y79p {post : SY → Prop} {J7 J67} {x3 : Int32} {j : Nat} (hE : ld_en mc ar m E) (hmc : mc ≤ 8) (har : ∀ i, ar i < 8) (hj : j < 8) (hl : lc < 8)
    (hp : J67 (x3 + 1) (nI (lc + 1)) (na_v ar) (na_v mo) (na_v y) (na_v fo) (na_v nN) fa (na_v bd) (na_v bv) (na_v (na_u od lc j)) ly rY kd vl ou st aO aV cY oC) :
    ∀ d i f, i + d = E → m ≤ i → d < f → wY_load_79 post J7 J67 (nI e) (nI m) x3 (nI mM) (nI mS) (nI mI) (nI mc) (nI sc) L (nI lc) cl (na_v ar) (na_v mo) (na_v y) (na_v fo) (na_v nN) fa (na_v bd) (na_v bv) (na_v od) ly rY kd vl ou st aO aV cY oC f (nI j) (nI i) := by
  obtain ⟨e1, e2, e3, e4⟩ := hE
  have am := har m
  have K : wY_load_129 post J7 J67 (nI e) (nI m) x3 (nI j) (nI mM) (nI mS) (nI mI) (nI mc) (nI sc) L (nI lc) cl (na_v ar) (na_v mo) (na_v y) (na_v fo) (na_v nN) fa (na_v bd) (na_v bv) (na_v od) ly rY kd vl ou st aO aV cY oC := br_f (nI_pos (by omega)) (nm_r (nI_1 lc) ⟨vp_in_nI hl (by decide), nm_r (na_ui (by omega)) (nm_e hp)⟩)
  intro d
  induction d with
  | zero =>
    intro i f hi hm hf
    obtain ⟨f, rfl⟩ := na_fu hf
    obtain rfl : i = E := by omega
    have as := har i
    refine pk_le mc i (fun _ => K) (fun h => ⟨vp_in_nI (by omega) (by decide), vp_in_nI (by omega) (by decide), pk_eq (ar i) (ar m) (fun q => ?_) (fun _ => K) (na_r (by omega)) (na_r (by omega))⟩)
    exact absurd q (e4.resolve_left (by omega))
  | succ d ih =>
    intro i f hi hm hf
    obtain ⟨f, rfl⟩ := na_fu hf
    have as := har i
    exact pk_le mc i (fun h => absurd h (by omega)) (fun h => ⟨vp_in_nI (by omega) (by decide), vp_in_nI (by omega) (by decide), pk_eq (ar i) (ar m) (fun _ => br_t (nI_pos' (by omega)) (nm_r (nI_1 i) (ih (i + 1) f (by omega) (by omega) (by omega)))) (fun q => absurd (e3 i (by omega) (by omega)) q) (na_r (by omega)) (na_r (by omega))⟩)
theorem ld_y79 {post : SY → Prop} {J7 J67} {x3 : Int32} (hE : ld_en mc ar m E) (hmc : mc ≤ 8) (har : ∀ i, ar i < 8) (he : e < 8) (hl : lc ≤ 8) (ho : ∀ i, od i < 8) (hb6 : ∀ i, bd i ≤ 6) (hd : ∀ i j, i < lc → j < lc → od i = od j → i = j) :
    ∀ d i f, i + d = E → m ≤ i → d < f → (ld_pk (ld_u bd od lc e) d i = -1 → J67 (x3 + 1) (nI lc) (na_v ar) (na_v mo) (na_v y) (na_v fo) (na_v nN) fa (na_v bd) (na_v bv) (na_v od) ly rY kd vl ou st aO aV cY oC) →
      (∀ j, j < 8 → ld_pk (ld_u bd od lc e) d i = nI j → lc < 8 ∧ J67 (x3 + 1) (nI (lc + 1)) (na_v ar) (na_v mo) (na_v y) (na_v fo) (na_v nN) fa (na_v bd) (na_v bv) (na_v (na_u od lc j)) ly rY kd vl ou st aO aV cY oC) → wY_load_79 post J7 J67 (nI e) (nI m) x3 (nI mM) (nI mS) (nI mI) (nI mc) (nI sc) L (nI lc) cl (na_v ar) (na_v mo) (na_v y) (na_v fo) (na_v nN) fa (na_v bd) (na_v bv) (na_v od) ly rY kd vl ou st aO aV cY oC f (-1) (nI i) := by
  have hE' := hE
  obtain ⟨e1, e2, e3, e4⟩ := hE
  have am := har m
  intro d
  induction d with
  | zero =>
    intro i f hi hm hf h1 h2
    obtain ⟨f, rfl⟩ := na_fu hf
    obtain rfl : i = E := by omega
    have as := har i
    have K : wY_load_129 post J7 J67 (nI e) (nI m) x3 (-1) (nI mM) (nI mS) (nI mI) (nI mc) (nI sc) L (nI lc) cl (na_v ar) (na_v mo) (na_v y) (na_v fo) (na_v nN) fa (na_v bd) (na_v bv) (na_v od) ly rY kd vl ou st aO aV cY oC := br_t na_m1lt (nm_e (h1 rfl))
    refine pk_le mc i (fun _ => K) (fun h => ⟨vp_in_nI (by omega) (by decide), vp_in_nI (by omega) (by decide), pk_eq (ar i) (ar m) (fun q => ?_) (fun _ => K) (na_r (by omega)) (na_r (by omega))⟩)
    exact absurd q (e4.resolve_left (by omega))
  | succ d ih =>
    intro i f hi hm hf h1 h2
    obtain ⟨f, rfl⟩ := na_fu hf
    have as := har i
    unfold ld_pk at h1 h2
    refine pk_le mc i (fun h => absurd h (by omega)) (fun h => ⟨vp_in_nI (by omega) (by decide), vp_in_nI (by omega) (by decide), pk_eq (ar i) (ar m) (fun _ => br_f na_m1le ?_) (fun q => absurd (e3 i (by omega) (by omega)) q) (na_r (by omega)) (na_r (by omega))⟩)
    refine ld_yu (by omega) he hl ho hb6 hd (fun hu => br_f (by decide) (nm_r (nI_1 i) ?_)) (fun hu => br_t rfl (nm_r (nI_1 i) (ih (i + 1) f (by omega) (by omega) (by omega) ?_ ?_)))
    · rw [if_pos hu] at h2
      obtain ⟨l8, hJ⟩ := h2 i (by omega) rfl
      exact ld_y79p hE' hmc har (by omega) l8 hJ d (i + 1) f (by omega) (by omega) (by omega)
    · rw [if_neg (by rw [hu]; decide)] at h1; exact h1
    · rw [if_neg (by rw [hu]; decide)] at h2; exact h2
theorem ld_y67n {post : SY → Prop} {J7} (hE : ld_en mc ar m E) (hmc : mc ≤ 8) (har : ∀ i, ar i < 8) (he : e < 8) (hl : lc ≤ 8) (ho : ∀ i, od i < 8) (hb6 : ∀ i, bd i ≤ 6) (hd : ∀ i j, i < lc → j < lc → od i = od j → i = j)
    (hn : ∀ k, m ≤ k → k < E → ld_u bd od lc e k = false) (hp : J7 (nI (m + 1)) (nI lc) (na_v ar) (na_v mo) (na_v y) (na_v fo) (na_v nN) fa (na_v bd) (na_v bv) (na_v od) ly rY kd vl ou st aO aV cY oC) :
    ∀ d t f, t + d = 8 → d < f → wY_load_67 post J7 (nI e) (nI m) (nI mM) (nI mS) (nI mI) (nI mc) (nI sc) L cl f (nI t) (nI lc) (na_v ar) (na_v mo) (na_v y) (na_v fo) (na_v nN) fa (na_v bd) (na_v bv) (na_v od) ly rY kd vl ou st aO aV cY oC := by
  have e1 := hE.1
  intro d
  induction d with
  | zero =>
    intro t f ht hf
    obtain ⟨f, rfl⟩ := na_fu hf
    exact pk_le 8 t (fun _ => nm_r (nI_1 m) hp) (fun h => absurd h (by omega))
  | succ d ih =>
    intro t f ht hf
    obtain ⟨f, rfl⟩ := na_fu hf
    refine pk_le 8 t (fun h => absurd h (by omega)) (fun _ => ⟨E - m + 1, ld_y79 hE hmc har he hl ho hb6 hd (E - m) m (E - m + 1) (by omega) (by omega) (by omega) (fun _ => ?_) (fun j hj hq => ?_)⟩)
    · rw [nI_1]; exact ih (t + 1) f (by omega) (by omega)
    · rcases ld_pk_cs (u := ld_u bd od lc e) (E - m) m with ⟨a, _⟩ | ⟨j', a, b, c, _⟩
      · rw [a] at hq; exact absurd hq.symm (na_ne1 (by omega))
      · rw [hn j' a (by omega)] at c; exact absurd c (by decide)
/-! the rounds of one archive -/
theorem ld_rd (hE : ld_en mc ar m E) (hmc : mc ≤ 8) (har : ∀ i, ar i < 8) (he : e < 8) (hb6 : ∀ i, bd i ≤ 6) :
    ∀ (d t lc : Nat) (od : Nat → Nat) (po : Nat → Int32), m + t + d = E → ld_li E lc od po → lc ≤ m + t → na_cn (fun k => decide (k < m) || ld_in od k lc) E = m + t →
    ∃ (lc' : Nat) (od' : Nat → Nat) (po' : Nat → Int32), ld_li E lc' od' po' ∧
      (∀ (post : SX → Prop) (f : Nat), d < f → post (0, 6, 7, nI mM, nI mS, nI mI, nI mc, nI sc, L, nI lc', qc, cc, na_v ar, na_v bd, na_v bv, na_v mo, na_v z, na_v fo, fa, fn, na_v od', po', wn, rt, qu, ba, pa, mO, mA, st, ct, aO, aA, oC, ou) → wX_pullArchive_36 post (nI m) (nI e) (nI E) f (nI (m + t)) 0 6 7 (nI mM) (nI mS) (nI mI) (nI mc) (nI sc) L (nI lc) qc cc (na_v ar) (na_v bd) (na_v bv) (na_v mo) (na_v z) (na_v fo) fa fn (na_v od) po wn rt qu ba pa mO mA st ct aO aA oC ou) ∧
      (∀ (post : SY → Prop) J7 (f : Nat), 8 - t < f → J7 (nI (m + 1)) (nI lc') (na_v ar) (na_v mo) (na_v y) (na_v fo) (na_v nN) fa (na_v bd) (na_v bv) (na_v od') ly rY kd vl ou st aO aV cY oC → wY_load_67 post J7 (nI e) (nI m) (nI mM) (nI mS) (nI mI) (nI mc) (nI sc) L cl f (nI t) (nI lc) (na_v ar) (na_v mo) (na_v y) (na_v fo) (na_v nN) fa (na_v bd) (na_v bv) (na_v od) ly rY kd vl ou st aO aV cY oC) := by
  obtain ⟨e1, e2, e3, e4⟩ := hE
  intro d
  induction d with
  | zero =>
    intro t lc od po ht hli hlc hcn
    have hli' := hli
    obtain ⟨h1, h2, h3, h4, h5⟩ := hli
    refine ⟨lc, od, po, hli', fun post f hf hp => ?_, fun post J7 f hf hp => ?_⟩
    · obtain ⟨f, rfl⟩ := na_fu hf
      exact pk_le E (m + t) (fun _ => hp) (fun h => absurd h (by omega))
    · refine ld_y67n ⟨e1, e2, e3, e4⟩ hmc har he (by omega) h5 hb6 h3 (fun k a b => ?_) hp (8 - t) t f (by omega) hf
      cases q : ld_u bd od lc e k
      · rfl
      · have hf : (decide (k < m) || ld_in od k lc) = false := by rw [ld_u_t q, decide_eq_false (by omega)]; rfl
        have := na_cn_lt (f := fun k => decide (k < m) || ld_in od k lc) hf E b
        omega
  | succ d ih =>
    intro t lc od po ht hli hlc hcn
    have hli' := hli
    obtain ⟨h1, h2, h3, h4, h5⟩ := hli
    rcases ld_pk_cs (u := ld_u bd od lc e) (E - m) m with ⟨a, b⟩ | ⟨j, a, b, c, g⟩
    · refine ⟨lc, od, po, hli', fun post f hf hp => ?_, fun post J7 f hf hp => ?_⟩
      · obtain ⟨f, rfl⟩ := na_fu hf
        refine pk_le E (m + t) (fun h => absurd h (by omega)) (fun _ => ⟨E - m + 1, ld_xu (by omega) he (by omega) h5 hb6 h4 (E - m) m (E - m + 1) (by omega) (by omega) ?_⟩)
        rw [a]
        exact br_f na_m1le hp
      · exact ld_y67n ⟨e1, e2, e3, e4⟩ hmc har he (by omega) h5 hb6 h3 (fun k a' b' => b k a' (by omega)) hp (8 - t) t f (by omega) hf
    · have hnot := ld_in_f.mp (ld_u_t c)
      have hup := ld_li_up hli' (j := j) (by omega) (by omega) hnot (by omega)
      have hcn' : na_cn (fun k => decide (k < m) || ld_in (na_u od lc j) k (lc + 1)) E = m + (t + 1) := by
        have := na_cn_up (f := fun k => decide (k < m) || ld_in od k lc) (g := fun k => decide (k < m) || ld_in (na_u od lc j) k (lc + 1)) (j := j) (by rw [ld_u_t c, decide_eq_false (by omega)]; rfl)
          (by rw [ld_in_u, decide_eq_true (rfl : j = j), Bool.or_true, Bool.or_true]) (fun i hi => by rw [ld_in_u, decide_eq_false (show ¬ (j = i) from fun q => hi q.symm), Bool.or_false]) E (by omega)
        omega
      obtain ⟨lc', od', po', k1, k2, k3⟩ := ih (t + 1) (lc + 1) (na_u od lc j) (upd po j (nI lc)) (by omega) hup (by omega) hcn'
      refine ⟨lc', od', po', k1, fun post f hf hp => ?_, fun post J7 f hf hp => ?_⟩
      · obtain ⟨f, rfl⟩ := na_fu hf
        refine pk_le E (m + t) (fun h => absurd h (by omega)) (fun _ => ⟨E - m + 1, ld_xu (by omega) he (by omega) h5 hb6 h4 (E - m) m (E - m + 1) (by omega) (by omega) ?_⟩)
        rw [g]
        exact br_t (nI_pos' (by omega)) (ld_xl (by omega) (by omega) (nm_r (nI_1 (m + t)) (k2 post f (by omega) hp)))
      · obtain ⟨f, rfl⟩ := na_fu hf
        refine pk_le 8 t (fun h => absurd h (by omega)) (fun _ => ⟨E - m + 1, ld_y79 ⟨e1, e2, e3, e4⟩ hmc har he (by omega) h5 hb6 h3 (E - m) m (E - m + 1) (by omega) (by omega) (by omega) (fun q => ?_) (fun j' hj' q => ⟨by omega, ?_⟩)⟩)
        · rw [g] at q; exact absurd q (na_ne1 (by omega))
        · obtain rfl : j = j' := na_im (g.symm.trans q) (by omega) (by omega)
          rw [nI_1]
          exact k3 post J7 f (by omega) hp
end
end
section
section
variable {mM mS mI mc sc lc : Nat} {ar bd bv mo z y fo nN od : Nat → Nat} {L qc cc cl : Int32} {fa fn po wn rt qu ba pa mO mA st ct aO aA oC ou ly rY kd vl aV cY : Nat → Int32}
variable {e : Nat}
def ld_b (mc : Nat) (ar : Nat → Nat) (m b : Nat) : Prop := m ≤ b ∧ b ≤ mc ∧ (∀ k, m ≤ k → k < b → 0 < m ∧ ar k = ar (m - 1) ∧ ar (m - 1) ≠ 0)
theorem ld_li_w {b b' lc : Nat} {od : Nat → Nat} {po : Nat → Int32} (h : ld_li b lc od po) (hb : b ≤ b') : ld_li b' lc od po := by
  obtain ⟨h1, h2, h3, h4, h5⟩ := h
  exact ⟨by omega, fun i hi => by have := h2 i hi; omega, h3, h4, h5⟩
theorem ld_ou (hmc : mc ≤ 8) (har : ∀ i, ar i < 8) (he : e < 8) (hb6 : ∀ i, bd i ≤ 6) :
    ∀ (d m lc : Nat) (od : Nat → Nat) (po : Nat → Int32) (b : Nat), m + d = mc → ld_b mc ar m b → ld_li b lc od po →
    ∃ (lc' : Nat) (od' : Nat → Nat) (po' : Nat → Int32), ld_li mc lc' od' po' ∧
      (∀ (post : SX → Prop) (f : Nat), d < f → post (0, 6, 7, nI mM, nI mS, nI mI, nI mc, nI sc, L, nI lc', qc, cc, na_v ar, na_v bd, na_v bv, na_v mo, na_v z, na_v fo, fa, fn, na_v od', po', wn, rt, qu, ba, pa, mO, mA, st, ct, aO, aA, oC, ou) → wX_loadModules_28 post (nI e) f (nI m) 0 6 7 (nI mM) (nI mS) (nI mI) (nI mc) (nI sc) L (nI lc) qc cc (na_v ar) (na_v bd) (na_v bv) (na_v mo) (na_v z) (na_v fo) fa fn (na_v od) po wn rt qu ba pa mO mA st ct aO aA oC ou) ∧
      (∀ (post : SY → Prop) (f : Nat), d < f → post (nI mM, nI mS, nI mI, nI mc, nI sc, L, nI lc', cl, na_v ar, na_v mo, na_v y, na_v fo, na_v nN, fa, na_v bd, na_v bv, na_v od', ly, rY, kd, vl, ou, st, aO, aV, cY, oC) → wY_load_7 post (nI e) (nI mM) (nI mS) (nI mI) (nI mc) (nI sc) L cl f (nI m) (nI lc) (na_v ar) (na_v mo) (na_v y) (na_v fo) (na_v nN) fa (na_v bd) (na_v bv) (na_v od) ly rY kd vl ou st aO aV cY oC) := by
  intro d
  induction d with
  | zero =>
    intro m lc od po b hm hb hli
    obtain ⟨b1, b2, b3⟩ := hb
    refine ⟨lc, od, po, ld_li_w hli b2, fun post f hf hp => ?_, fun post f hf hp => ?_⟩
    · obtain ⟨f, rfl⟩ := na_fu hf
      exact pk_le mc m (fun _ => hp) (fun h => absurd h (by omega))
    · obtain ⟨f, rfl⟩ := na_fu hf
      exact pk_le mc m (fun _ => hp) (fun h => absurd h (by omega))
  | succ d ih =>
    intro m lc od po b hm hb hli
    obtain ⟨b1, b2, b3⟩ := hb
    have am := har m
    have hin : vp_in (nI m) 8 := vp_in_nI (by omega) (by decide)
    by_cases h0 : ar m = 0
    · have hbm : b = m := by
        by_cases q : m < b
        · have := b3 m (by omega) q
          omega
        · omega
      subst hbm
      have hlb := hli.1
      have hnot : ∀ i, i < lc → od i ≠ b := fun i hi q => by have := hli.2.1 i hi; omega
      have hup := ld_li_up (ld_li_w hli (b' := b + 1) (by omega)) (j := b) (by omega) (by omega) hnot (by omega)
      obtain ⟨lc', od', po', k1, k2, k3⟩ := ih (b + 1) (lc + 1) (na_u od lc b) (upd po b (nI lc)) (b + 1) (by omega) ⟨by omega, by omega, fun k q1 q2 => absurd q2 (by omega)⟩ hup
      refine ⟨lc', od', po', k1, fun post f hf hp => ?_, fun post f hf hp => ?_⟩
      · obtain ⟨f, rfl⟩ := na_fu hf
        exact pk_le mc b (fun h => absurd h (by omega)) (fun _ => ⟨hin, pk_eq (ar b) 0 (fun _ => ld_xl (by omega) (by omega) (nm_r (nI_1 b) (k2 post f (by omega) hp))) (fun q => absurd h0 q) (na_r (by omega))⟩)
      · obtain ⟨f, rfl⟩ := na_fu hf
        exact pk_le mc b (fun h => absurd h (by omega)) (fun _ => ⟨hin, pk_eq (ar b) 0 (fun _ => nm_r (nI_1 lc) ⟨vp_in_nI (by omega) (by decide), nm_r (na_ui (by omega)) (nm_r (nI_1 b) (k3 post f (by omega) hp))⟩) (fun q => absurd h0 q) (na_r (by omega))⟩)
    by_cases hfirst : m = 0 ∨ ar (m - 1) ≠ ar m
    · have hbm : b = m := by
        by_cases q : m < b
        · have := b3 m (by omega) q
          omega
        · omega
      subst hbm
      have hlb := hli.1
      obtain ⟨E, hE⟩ := ld_ex (mc := mc) (ar := ar) (m := b) d (b + 1) (by omega) (by omega) (fun k q1 q2 => by rw [show k = b from by omega])
      have hE' := hE
      obtain ⟨e1, e2, e3, e4⟩ := hE
      have hcn : na_cn (fun k => decide (k < b) || ld_in od k lc) E = b + 0 := by
        refine ld_cf E (by omega) (fun j hj => ?_) (fun j q1 q2 => ?_)
        · rw [decide_eq_true (show j < b from hj)]; rfl
        · rw [decide_eq_false (by omega), ld_in_f.mpr (fun i hi => by have := hli.2.1 i hi; omega)]; rfl
      obtain ⟨lc1, od1, po1, r1, r2, r3⟩ := ld_rd (mM := mM) (mS := mS) (mI := mI) (mc := mc) (sc := sc) (ar := ar) (bd := bd) (bv := bv) (mo := mo) (z := z) (y := y) (fo := fo) (nN := nN) (L := L) (qc := qc) (cc := cc) (cl := cl) (fa := fa) (fn := fn) (wn := wn) (rt := rt) (qu := qu) (ba := ba) (pa := pa) (mO := mO) (mA := mA) (st := st) (ct := ct) (aO := aO) (aA := aA) (oC := oC) (ou := ou) (ly := ly) (rY := rY) (kd := kd) (vl := vl) (aV := aV) (cY := cY) (e := e) hE' hmc har he hb6 (E - b) 0 lc od po (by omega) (ld_li_w hli (by omega)) (by omega) hcn
      obtain ⟨lc', od', po', k1, k2, k3⟩ := ih (b + 1) lc1 od1 po1 E (by omega) ⟨by omega, by omega, fun k q1 q2 => ⟨by omega, by rw [Nat.add_sub_cancel]; exact e3 k (by omega) q2, by rw [Nat.add_sub_cancel]; exact h0⟩⟩ r1
      have KX : ∀ (post : SX → Prop) (f : Nat), d < f → post (0, 6, 7, nI mM, nI mS, nI mI, nI mc, nI sc, L, nI lc', qc, cc, na_v ar, na_v bd, na_v bv, na_v mo, na_v z, na_v fo, fa, fn, na_v od', po', wn, rt, qu, ba, pa, mO, mA, st, ct, aO, aA, oC, ou) → wX_loadModules_74 post (wX_loadModules_28 post (nI e) f) (nI e) (nI b) 0 6 7 (nI mM) (nI mS) (nI mI) (nI mc) (nI sc) L (nI lc) qc cc (na_v ar) (na_v bd) (na_v bv) (na_v mo) (na_v z) (na_v fo) fa fn (na_v od) po wn rt qu ba pa mO mA st ct aO aA oC ou := by
        intro post f hf hp
        unfold wX_loadModules_74
        refine nm_r (nI_1 b) ⟨E - (b + 1) + 1, ld_x4 hE' hmc har ⟨E - b + 1, r2 _ (E - b + 1) (by omega) ?_⟩ (E - (b + 1)) (b + 1) (E - (b + 1) + 1) (by omega) (by omega) (by omega)⟩
        exact nm_r (nI_1 b) (k2 post f (by omega) hp)
      have KY : ∀ (post : SY → Prop) (f : Nat), d < f → post (nI mM, nI mS, nI mI, nI mc, nI sc, L, nI lc', cl, na_v ar, na_v mo, na_v y, na_v fo, na_v nN, fa, na_v bd, na_v bv, na_v od', ly, rY, kd, vl, ou, st, aO, aV, cY, oC) → ∃ n67, wY_load_67 post (wY_load_7 post (nI e) (nI mM) (nI mS) (nI mI) (nI mc) (nI sc) L cl f) (nI e) (nI b) (nI mM) (nI mS) (nI mI) (nI mc) (nI sc) L cl n67 0 (nI lc) (na_v ar) (na_v mo) (na_v y) (na_v fo) (na_v nN) fa (na_v bd) (na_v bv) (na_v od) ly rY kd vl ou st aO aV cY oC :=
        fun post f hf hp => ⟨9, r3 post _ 9 (by omega) (k3 post f (by omega) hp)⟩
      refine ⟨lc', od', po', k1, fun post f hf hp => ?_, fun post f hf hp => ?_⟩
      · obtain ⟨f, rfl⟩ := na_fu hf
        refine pk_le mc b (fun h => absurd h (by omega)) (fun _ => ⟨hin, pk_eq (ar b) 0 (fun q => absurd q h0) (fun _ => pk_eq b 0 (fun _ => KX post f (by omega) hp) (fun hb0 => ?_)) (na_r (by omega))⟩)
        have ab := har (b - 1)
        have eb : nI b - 1 = nI (b - 1) := na_s1 (by omega)
        refine ⟨na_in eb (by omega) (by decide), hin, pk_eq (ar (b - 1)) (ar b) (fun q => absurd q (hfirst.resolve_left hb0)) (fun _ => KX post f (by omega) hp) (by rw [eb]; exact na_r (by omega)) (na_r (by omega))⟩
      · obtain ⟨f, rfl⟩ := na_fu hf
        refine pk_le mc b (fun h => absurd h (by omega)) (fun _ => ⟨hin, pk_eq (ar b) 0 (fun q => absurd q h0) (fun _ => pk_eq b 0 (fun _ => KY post f (by omega) hp) (fun hb0 => ?_)) (na_r (by omega))⟩)
        have ab := har (b - 1)
        have eb : nI b - 1 = nI (b - 1) := na_s1 (by omega)
        refine ⟨na_in eb (by omega) (by decide), hin, pk_eq (ar (b - 1)) (ar b) (fun q => absurd q (hfirst.resolve_left hb0)) (fun _ => KY post f (by omega) hp) (by rw [eb]; exact na_r (by omega)) (na_r (by omega))⟩
    · have hm0 : m ≠ 0 := fun q => hfirst (Or.inl q)
      have hme : ar (m - 1) = ar m := Decidable.byContradiction (fun q => hfirst (Or.inr q))
      have hstep : ∃ b', b ≤ b' ∧ ld_b mc ar (m + 1) b' := by
        by_cases q : m < b
        · refine ⟨b, by omega, by omega, b2, fun k q1 q2 => ⟨by omega, ?_, ?_⟩⟩
          · rw [Nat.add_sub_cancel, (b3 k (by omega) q2).2.1, hme]
          · rw [Nat.add_sub_cancel]; exact h0
        · exact ⟨m + 1, by omega, by omega, by omega, fun k q1 q2 => absurd q2 (by omega)⟩
      obtain ⟨b', c1, c2⟩ := hstep
      obtain ⟨lc', od', po', k1, k2, k3⟩ := ih (m + 1) lc od po b' (by omega) c2 (ld_li_w hli c1)
      have ab := har (m - 1)
      have eb : nI m - 1 = nI (m - 1) := na_s1 (by omega)
      refine ⟨lc', od', po', k1, fun post f hf hp => ?_, fun post f hf hp => ?_⟩
      · obtain ⟨f, rfl⟩ := na_fu hf
        exact pk_le mc m (fun h => absurd h (by omega)) (fun _ => ⟨hin, pk_eq (ar m) 0 (fun q => absurd q h0) (fun _ => pk_eq m 0 (fun q => absurd q hm0) (fun _ => ⟨na_in eb (by omega) (by decide), hin, pk_eq (ar (m - 1)) (ar m) (fun _ => nm_r (nI_1 m) (k2 post f (by omega) hp)) (fun q => absurd hme q) (by rw [eb]; exact na_r (by omega)) (na_r (by omega))⟩)) (na_r (by omega))⟩)
      · obtain ⟨f, rfl⟩ := na_fu hf
        exact pk_le mc m (fun h => absurd h (by omega)) (fun _ => ⟨hin, pk_eq (ar m) 0 (fun q => absurd q h0) (fun _ => pk_eq m 0 (fun q => absurd q hm0) (fun _ => ⟨na_in eb (by omega) (by decide), hin, pk_eq (ar (m - 1)) (ar m) (fun _ => nm_r (nI_1 m) (k3 post f (by omega) hp)) (fun q => absurd hme q) (by rw [eb]; exact na_r (by omega)) (na_r (by omega))⟩)) (na_r (by omega))⟩)
/-! positions are cleared -/
theorem ld_x7 : ∀ (k i : Nat) (po : Nat → Int32), i + k = 8 → (∀ j, j < i → po j = -1) → ∃ po', (∀ j, j < 8 → po' j = -1) ∧
    ∀ (post : SX → Prop) (f : Nat), k < f → (∃ n28, wX_loadModules_28 post (nI e) n28 0 0 6 7 (nI mM) (nI mS) (nI mI) (nI mc) (nI sc) L (nI lc) qc cc (na_v ar) (na_v bd) (na_v bv) (na_v mo) (na_v z) (na_v fo) fa fn (na_v od) po' wn rt qu ba pa mO mA st ct aO aA oC ou) → wX_loadModules_7 post (nI e) 0 6 7 (nI mM) (nI mS) (nI mI) (nI mc) (nI sc) L (nI lc) qc cc f (nI i) (na_v ar) (na_v bd) (na_v bv) (na_v mo) (na_v z) (na_v fo) fa fn (na_v od) po wn rt qu ba pa mO mA st ct aO aA oC ou := by
  intro k
  induction k with
  | zero =>
    intro i po hi h
    refine ⟨po, fun j hj => h j (by omega), fun post f hf hp => ?_⟩
    obtain ⟨f, rfl⟩ := na_fu hf
    exact pk_le 8 i (fun _ => hp) (fun h => absurd h (by omega))
  | succ k ih =>
    intro i po hi h
    obtain ⟨po', h1, h2⟩ := ih (i + 1) (upd po i (-1)) (by omega) (fun j hj => by
      by_cases q : j = i
      · rw [q, pk_us]
      · rw [pk_un q]; exact h j (by omega))
    refine ⟨po', h1, fun post f hf hp => ?_⟩
    obtain ⟨f, rfl⟩ := na_fu hf
    exact pk_le 8 i (fun h => absurd h (by omega)) (fun _ => ⟨vp_in_nI (by omega) (by decide), nm_r (na_uc (by omega)) (nm_r (nI_1 i) (h2 post f (by omega) hp))⟩)
theorem ld_al (hF : fd_ok mM mS mI mc sc ar bd bv mo z y fo nN od fa fn) (he : e < 8) :
    ∃ (lc' : Nat) (od' : Nat → Nat) (po' : Nat → Int32), ld_ok mc lc' od' po' ∧ (∀ i, od' i < 8) ∧
      (∀ (post : SX → Prop), post (0, 6, 7, nI mM, nI mS, nI mI, nI mc, nI sc, L, nI lc', qc, cc, na_v ar, na_v bd, na_v bv, na_v mo, na_v z, na_v fo, fa, fn, na_v od', po', wn, rt, qu, ba, pa, mO, mA, st, ct, aO, aA, oC, ou) → wpX_loadModules post (0, 6, 7, nI mM, nI mS, nI mI, nI mc, nI sc, L, nI lc, qc, cc, na_v ar, na_v bd, na_v bv, na_v mo, na_v z, na_v fo, fa, fn, na_v od, po, wn, rt, qu, ba, pa, mO, mA, st, ct, aO, aA, oC, ou) (nI e)) ∧
      (∀ (post : SY → Prop), post (nI mM, nI mS, nI mI, nI mc, nI sc, L, nI lc', cl, na_v ar, na_v mo, na_v y, na_v fo, na_v nN, fa, na_v bd, na_v bv, na_v od', ly, rY, kd, vl, ou, st, aO, aV, cY, oC) → wpY_load post (nI mM, nI mS, nI mI, nI mc, nI sc, L, nI lc, cl, na_v ar, na_v mo, na_v y, na_v fo, na_v nN, fa, na_v bd, na_v bv, na_v od, ly, rY, kd, vl, ou, st, aO, aV, cY, oC) (nI e)) := by
  obtain ⟨h1, h2, h3, h4, h5, h6, h7, h8, h9, h10, h11, h12, h13, h14, h15, h16, h17⟩ := hF
  obtain ⟨po1, p1, p2⟩ := ld_x7 (mM := mM) (mS := mS) (mI := mI) (mc := mc) (sc := sc) (lc := 0) (ar := ar) (bd := bd) (bv := bv) (mo := mo) (z := z) (fo := fo) (od := od) (L := L) (qc := qc) (cc := cc) (fa := fa) (fn := fn) (wn := wn) (rt := rt) (qu := qu) (ba := ba) (pa := pa) (mO := mO) (mA := mA) (st := st) (ct := ct) (aO := aO) (aA := aA) (oC := oC) (ou := ou) (e := e) 8 0 po (by omega) (fun j hj => absurd hj (by omega))
  obtain ⟨lc', od', po', k1, k2, k3⟩ := ld_ou (mM := mM) (mS := mS) (mI := mI) (mc := mc) (sc := sc) (ar := ar) (bd := bd) (bv := bv) (mo := mo) (z := z) (y := y) (fo := fo) (nN := nN) (L := L) (qc := qc) (cc := cc) (cl := cl) (fa := fa) (fn := fn) (wn := wn) (rt := rt) (qu := qu) (ba := ba) (pa := pa) (mO := mO) (mA := mA) (st := st) (ct := ct) (aO := aO) (aA := aA) (oC := oC) (ou := ou) (ly := ly) (rY := rY) (kd := kd) (vl := vl) (aV := aV) (cY := cY) (e := e) (by omega) h2 he h3 mc 0 0 od po1 0 (by omega) ⟨by omega, by omega, fun k q1 q2 => absurd q2 (by omega)⟩
    ⟨by omega, fun i hi => absurd hi (by omega), fun i j hi => absurd hi (by omega), fun j hj => Or.inl ⟨fun i hi => absurd hi (by omega), p1 j hj⟩, h17⟩
  obtain ⟨q1, q2, q3, q4, q5⟩ := k1
  refine ⟨lc', od', po', ⟨by omega, q2, q3, q4⟩, q5, fun post hp => ⟨9, p2 post 9 (by omega) ⟨mc + 1, k2 post (mc + 1) (by omega) hp⟩⟩, fun post hp => ⟨mc + 1, k3 post (mc + 1) (by omega) hp⟩⟩
end
end
section
/-! duplicates -/
def du_c (bd od : Nat → Nat) (n : Nat) : Nat → Nat
  | 0 => 0
  | i + 1 => if bd (8 * od i + n) = 4 then du_c bd od n i + 1 else du_c bd od n i
theorem du_le {bd od : Nat → Nat} {n : Nat} : ∀ i, du_c bd od n i ≤ i
  | 0 => Nat.le_refl 0
  | i + 1 => by
    have := du_le (bd := bd) (od := od) (n := n) i
    show (if bd (8 * od i + n) = 4 then du_c bd od n i + 1 else du_c bd od n i) ≤ i + 1
    split <;> omega
theorem du_1 {bd od : Nat → Nat} {n i : Nat} (h : bd (8 * od i + n) = 4) : ∀ l, i < l → 1 ≤ du_c bd od n l
  | 0, hi => absurd hi (by omega)
  | l + 1, hi => by
    show 1 ≤ (if bd (8 * od l + n) = 4 then du_c bd od n l + 1 else du_c bd od n l)
    by_cases e : i = l
    · subst e
      rw [if_pos h]; omega
    · have := du_1 h l (by omega)
      split <;> omega
theorem du_2 {bd od : Nat → Nat} {n i j : Nat} (hi : bd (8 * od i + n) = 4) (hj : bd (8 * od j + n) = 4) (hij : i < j) : ∀ l, j < l → 2 ≤ du_c bd od n l
  | 0, h => absurd h (by omega)
  | l + 1, h => by
    show 2 ≤ (if bd (8 * od l + n) = 4 then du_c bd od n l + 1 else du_c bd od n l)
    by_cases e : j = l
    · subst e
      have := du_1 hi j hij
      rw [if_pos hj]; omega
    · have := du_2 hi hj hij l (by omega)
      split <;> omega
theorem du_nd {bd od : Nat → Nat} {lc : Nat} (h : ∀ n, n < 8 → du_c bd od n lc ≤ 1) : wi_nd bd od lc := by
  intro n hn i j hi hj b1 b2
  have := h n hn
  by_cases e : i < j
  · have := du_2 b1 b2 e lc hj; omega
  · by_cases e2 : j < i
    · have := du_2 b2 b1 e2 lc hi; omega
    · omega
section
variable {mM mS mI mc sc lc : Nat} {ar bd bv mo z y fo nN od : Nat → Nat} {L qc cc cl : Int32} {fa fn po wn rt qu ba pa mO mA st ct aO aA oC ou ly rY kd vl aV cY : Nat → Int32}
variable {e : Nat}
theorem du_x {post : Int32 → Prop} {J2 : Int32 → Prop} {n : Nat} (hn : n < 8) (hl : lc ≤ 8) (ho : ∀ i, od i < 8) (hb6 : ∀ i, bd i ≤ 6) (h1 : du_c bd od n lc ≤ 1 → J2 (nI (n + 1))) (h2 : 2 ≤ du_c bd od n lc → post (nI n)) :
    ∀ k i f, i + k = lc → k < f → wX_leastDuplicate_12 post J2 (nI n) 0 6 7 (nI mM) (nI mS) (nI mI) (nI mc) (nI sc) L (nI lc) qc cc (na_v ar) (na_v bd) (na_v bv) (na_v mo) (na_v z) (na_v fo) fa fn (na_v od) po wn rt qu ba pa mO mA st ct aO aA oC ou f (nI (du_c bd od n i)) (nI i) := by
  intro k
  induction k with
  | zero =>
    intro i f hi hf
    obtain ⟨f, rfl⟩ := na_fu hf
    obtain rfl : i = lc := by omega
    have := du_le (bd := bd) (od := od) (n := n) i
    exact pk_le i i (fun _ => pk_le (du_c bd od n i) 1 (fun h => nm_r (nI_1 n) (h1 h)) (fun h => h2 h)) (fun h => absurd h (by omega))
  | succ k ih =>
    intro i f hi hf
    obtain ⟨f, rfl⟩ := na_fu hf
    have hoi := ho i
    have hb := hb6 (8 * od i + n)
    have hin : vp_in (8 * (na_v od (nI i).toNatClampNeg) + nI n) 64 := na_in (na_ix (by omega)) (by omega) (by decide)
    have ih2 := ih (i + 1) f (by omega) (by omega)
    unfold du_c at ih2
    refine pk_le lc i (fun h => absurd h (by omega)) (fun _ => ⟨vp_in_nI (by omega) (by decide), hin, pk_eq (bd (8 * od i + n)) 4 (fun h => nm_r (nI_1 _) (nm_r (nI_1 i) ?_)) (fun h => nm_r (nI_1 i) ?_) (na_rb (by omega) (by omega))⟩)
    · rw [if_pos h] at ih2; exact ih2
    · rw [if_neg h] at ih2; exact ih2
theorem du_y {post : Int32 → SY → Prop} {J24 : Int32 → Prop} {n : Nat} (hn : n < 8) (hl : lc ≤ 8) (ho : ∀ i, od i < 8) (hb6 : ∀ i, bd i ≤ 6) (h1 : du_c bd od n lc ≤ 1 → J24 (nI (n + 1))) (h2 : 2 ≤ du_c bd od n lc → post (16 + nI n) (nI mM, nI mS, nI mI, nI mc, nI sc, L, nI lc, cl, na_v ar, na_v mo, na_v y, na_v fo, na_v nN, fa, na_v bd, na_v bv, na_v od, ly, rY, kd, vl, ou, st, aO, aV, cY, oC)) :
    ∀ k i f, i + k = lc → k < f → wY_link_35 post J24 (nI e) (nI n) (nI mM) (nI mS) (nI mI) (nI mc) (nI sc) L (nI lc) cl (na_v ar) (na_v mo) (na_v y) (na_v fo) (na_v nN) fa (na_v bd) (na_v bv) (na_v od) ly rY kd vl ou st aO aV cY oC f (nI (du_c bd od n i)) (nI i) := by
  intro k
  induction k with
  | zero =>
    intro i f hi hf
    obtain ⟨f, rfl⟩ := na_fu hf
    obtain rfl : i = lc := by omega
    have := du_le (bd := bd) (od := od) (n := n) i
    exact pk_le i i (fun _ => pk_lt (du_c bd od n i) 2 (fun h => nm_r (nI_1 n) (h1 (by omega))) (fun h => h2 h)) (fun h => absurd h (by omega))
  | succ k ih =>
    intro i f hi hf
    obtain ⟨f, rfl⟩ := na_fu hf
    have hoi := ho i
    have hb := hb6 (8 * od i + n)
    have hin : vp_in (8 * (na_v od (nI i).toNatClampNeg) + nI n) 64 := na_in (na_ix (by omega)) (by omega) (by decide)
    have ih2 := ih (i + 1) f (by omega) (by omega)
    unfold du_c at ih2
    refine pk_le lc i (fun h => absurd h (by omega)) (fun _ => ⟨vp_in_nI (by omega) (by decide), hin, pk_eq (bd (8 * od i + n)) 4 (fun h => nm_r (nI_1 _) (nm_r (nI_1 i) ?_)) (fun h => nm_r (nI_1 i) ?_) (na_rb (by omega) (by omega))⟩)
    · rw [if_pos h] at ih2; exact ih2
    · rw [if_neg h] at ih2; exact ih2
theorem du_l (hl : lc ≤ 8) (ho : ∀ i, od i < 8) (hb6 : ∀ i, bd i ≤ 6) :
    ∀ k n, n + k = 8 → (∀ n', n' < n → du_c bd od n' lc ≤ 1) → ∃ r : Int32, ((r = -1 ∧ ∀ n', n' < 8 → du_c bd od n' lc ≤ 1) ∨ (∃ n', n' < 8 ∧ r = nI n')) ∧
      (∀ (post : Int32 → Prop) (f : Nat), k < f → post r → wX_leastDuplicate_2 post 0 6 7 (nI mM) (nI mS) (nI mI) (nI mc) (nI sc) L (nI lc) qc cc (na_v ar) (na_v bd) (na_v bv) (na_v mo) (na_v z) (na_v fo) fa fn (na_v od) po wn rt qu ba pa mO mA st ct aO aA oC ou f (nI n)) ∧
      (∀ (post : Int32 → SY → Prop), (r = -1 → wY_link_24 post (nI e) (nI mM) (nI mS) (nI mI) (nI mc) (nI sc) L (nI lc) cl (na_v ar) (na_v mo) (na_v y) (na_v fo) (na_v nN) fa (na_v bd) (na_v bv) (na_v od) ly rY kd vl ou st aO aV cY oC 1 (nI 8)) → (∀ n', n' < 8 → r = nI n' → post (16 + nI n') (nI mM, nI mS, nI mI, nI mc, nI sc, L, nI lc, cl, na_v ar, na_v mo, na_v y, na_v fo, na_v nN, fa, na_v bd, na_v bv, na_v od, ly, rY, kd, vl, ou, st, aO, aV, cY, oC)) → wY_link_24 post (nI e) (nI mM) (nI mS) (nI mI) (nI mc) (nI sc) L (nI lc) cl (na_v ar) (na_v mo) (na_v y) (na_v fo) (na_v nN) fa (na_v bd) (na_v bv) (na_v od) ly rY kd vl ou st aO aV cY oC (k + 1) (nI n)) := by
  intro k
  induction k with
  | zero =>
    intro n hn h
    obtain rfl : n = 8 := by omega
    refine ⟨-1, Or.inl ⟨rfl, fun n' hn' => h n' (by omega)⟩, fun post f hf hp => ?_, fun post h1 _ => h1 rfl⟩
    obtain ⟨f, rfl⟩ := na_fu hf
    exact pk_le 8 8 (fun _ => hp) (fun h => absurd h (by omega))
  | succ k ih =>
    intro n hn h
    by_cases hd : du_c bd od n lc ≤ 1
    · obtain ⟨r, h1, h2, h3⟩ := ih (n + 1) (by omega) (fun n' hn' => by
        by_cases q : n' = n
        · rw [q]; exact hd
        · exact h n' (by omega))
      refine ⟨r, h1, fun post f hf hp => ?_, fun post a b => ?_⟩
      · obtain ⟨f, rfl⟩ := na_fu hf
        exact pk_le 8 n (fun h => absurd h (by omega)) (fun _ => ⟨lc + 1, du_x (by omega) hl ho hb6 (fun _ => h2 post f (by omega) hp) (fun h => absurd h (by omega)) lc 0 (lc + 1) (by omega) (by omega)⟩)
      · exact pk_le 8 n (fun h => absurd h (by omega)) (fun _ => ⟨lc + 1, du_y (by omega) hl ho hb6 (fun _ => h3 post a b) (fun h => absurd h (by omega)) lc 0 (lc + 1) (by omega) (by omega)⟩)
    · refine ⟨nI n, Or.inr ⟨n, by omega, rfl⟩, fun post f hf hp => ?_, fun post a b => ?_⟩
      · obtain ⟨f, rfl⟩ := na_fu hf
        exact pk_le 8 n (fun h => absurd h (by omega)) (fun _ => ⟨lc + 1, du_x (by omega) hl ho hb6 (fun h => absurd h hd) (fun _ => hp) lc 0 (lc + 1) (by omega) (by omega)⟩)
      · exact pk_le 8 n (fun h => absurd h (by omega)) (fun _ => ⟨lc + 1, du_y (by omega) hl ho hb6 (fun h => absurd h hd) (fun _ => b n (by omega) rfl) lc 0 (lc + 1) (by omega) (by omega)⟩)
/-! X's winners -/
theorem wi_x10 {post : SX → Prop} {n : Nat} (hn : n < 8) (hl : lc ≤ 8) (ho : ∀ i, od i < 8) (hb6 : ∀ i, bd i ≤ 6) (hv : ∀ i, bd i = 6 → bv i ≤ 8)
    (hp : post (0, 6, 7, nI mM, nI mS, nI mI, nI mc, nI sc, L, nI lc, qc, cc, na_v ar, na_v bd, na_v bv, na_v mo, na_v (na_u z (8 + n) (wi_cm bd bv od n lc)), na_v fo, fa, fn, na_v od, po, upd wn n (wi_wn bd bv od lc n), rt, qu, ba, pa, mO, mA, st, ct, aO, aA, oC, ou)) :
    ∀ k i f, i + k = lc → k < f → wX_chooseWinner_10 post (nI n) 0 6 7 (nI mM) (nI mS) (nI mI) (nI mc) (nI sc) L (nI lc) qc cc (na_v ar) (na_v bd) (na_v bv) (na_v mo) (na_v z) (na_v fo) fa fn (na_v od) po wn rt qu ba pa mO mA st ct aO aA oC ou f (wi_st bd bv od n i) (wi_wk bd bv od n i) (nI (wi_cm bd bv od n i)) (nI i) := by
  intro k
  induction k with
  | zero =>
    intro i f hi hf
    obtain ⟨f, rfl⟩ := na_fu hf
    obtain rfl : i = lc := by omega
    have hc := wi_cm_le (bd := bd) (bv := bv) (od := od) (n := n) hv i
    have hin : vp_in (nI n) 8 := vp_in_nI hn (by decide)
    refine pk_le i i (fun _ => ⟨na_in (na_a8 n) (by omega) (by decide), nm_r (e' := na_v (na_u z (8 + n) (wi_cm bd bv od n i))) (by rw [na_a8]; exact na_ui (by omega)) (br_c (fun h => pk_le (wi_cm bd bv od n i) 0 (fun h0 => ⟨hin, nm_r (e' := upd wn n (wi_wn bd bv od i n)) ?_ hp⟩) (fun h0 => ⟨hin, nm_r (e' := upd wn n (wi_wn bd bv od i n)) ?_ hp⟩)) (fun h => ⟨hin, nm_r (e' := upd wn n (wi_wn bd bv od i n)) ?_ hp⟩))⟩) (fun h => absurd h (by omega))
    · rw [nI_clamp (by omega)]; unfold wi_wn; rw [if_pos h, if_pos (by omega)]
    · rw [nI_clamp (by omega)]; unfold wi_wn; rw [if_pos h, if_neg (by omega), na_a8, na_m8]
    · rw [nI_clamp (by omega)]; unfold wi_wn; rw [if_neg h]
  | succ k ih =>
    intro i f hi hf
    obtain ⟨f, rfl⟩ := na_fu hf
    have hoi := ho i
    have hb := hb6 (8 * od i + n)
    have hc := wi_cm_le (bd := bd) (bv := bv) (od := od) (n := n) hv i
    have hin : vp_in (nI (8 * od i + n)) 64 := vp_in_nI (by omega) (by decide)
    have er : na_v bd (nI (8 * od i + n)).toNatClampNeg = nI (bd (8 * od i + n)) := na_r (by omega)
    have ih2 := ih (i + 1) f (by omega) (by omega)
    unfold wi_st wi_wk wi_cm at ih2
    have K : bd (8 * od i + n) ≠ 4 → (bd (8 * od i + n) = 5 → wi_wk bd bv od n i ≠ -1) → wX_chooseWinner_81 post (wX_chooseWinner_10 post (nI n) 0 6 7 (nI mM) (nI mS) (nI mI) (nI mc) (nI sc) L (nI lc) qc cc (na_v ar) (na_v bd) (na_v bv) (na_v mo) (na_v z) (na_v fo) fa fn (na_v od) po wn rt qu ba pa mO mA st ct aO aA oC ou f) (nI n) (wi_st bd bv od n i) (wi_wk bd bv od n i) (nI (wi_cm bd bv od n i)) (nI i) (nI (8 * od i + n)) (nI (bv (8 * od i + n))) 0 6 7 (nI mM) (nI mS) (nI mI) (nI mc) (nI sc) L (nI lc) qc cc (na_v ar) (na_v bd) (na_v bv) (na_v mo) (na_v z) (na_v fo) fa fn (na_v od) po wn rt qu ba pa mO mA st ct aO aA oC ou := by
      intro n4 n5
      rw [if_neg n4, if_neg (fun q => n5 q.1 q.2)] at ih2
      refine ⟨hin, pk_eq (bd (8 * od i + n)) 6 (fun h6 => ?_) (fun h6 => nm_r (nI_1 i) ?_) er⟩
      · have h8 := hv _ h6
        refine pk_le (bv (8 * od i + n)) (wi_cm bd bv od n i) (fun hle => nm_r (nI_1 i) ?_) (fun hgt => nm_r (nI_1 i) ?_)
        · rw [if_neg (fun q => q.2 hle)] at ih2; exact ih2
        · rw [if_pos ⟨h6, by omega⟩] at ih2; exact ih2
      · rw [if_neg (fun q => h6 q.1)] at ih2; exact ih2
    refine pk_le lc i (fun h => absurd h (by omega)) (fun _ => ⟨vp_in_nI (by omega) (by decide), nm_r (na_ix (by omega)) ⟨hin, nm_r (na_r (by omega)) ⟨hin, pk_eq (bd (8 * od i + n)) 4 (fun h => nm_r (nI_1 i) ?_) (fun h4 => ⟨hin, pk_eq (bd (8 * od i + n)) 5 (fun h5 => br_c (fun hw => nm_r (nI_1 i) ?_) (fun hw => K h4 (fun _ => hw))) (fun h5 => K h4 (fun q => absurd q h5)) er⟩) er⟩⟩⟩)
    · rw [if_pos h, if_neg (fun q => by omega), if_neg (fun q => by omega)] at ih2; exact ih2
    · rw [if_neg h4, if_pos ⟨h5, hw⟩, if_neg (fun q => by omega)] at ih2; exact ih2
theorem wi_x38 (hl : lc ≤ 8) (ho : ∀ i, od i < 8) (hb6 : ∀ i, bd i ≤ 6) (hv : ∀ i, bd i = 6 → bv i ≤ 8) :
    ∀ (k n : Nat) (z : Nat → Nat) (wn : Nat → Int32), n + k = 8 → (∀ b, z b ≤ 8) → ∃ (z' : Nat → Nat) (wn' : Nat → Int32), (∀ b, b < 8 → z' b = z b) ∧ (∀ b, z' b ≤ 8) ∧
      (∀ n', n ≤ n' → n' < 8 → z' (8 + n') = wi_cm bd bv od n' lc ∧ wn' n' = wi_wn bd bv od lc n') ∧ (∀ n', n' < n → z' (8 + n') = z (8 + n') ∧ wn' n' = wn n') ∧
      ∀ (post : Int32 → SX → Prop), wX_link_38 post (nI e) 1 (nI 8) 0 6 7 (nI mM) (nI mS) (nI mI) (nI mc) (nI sc) L (nI lc) qc cc (na_v ar) (na_v bd) (na_v bv) (na_v mo) (na_v z') (na_v fo) fa fn (na_v od) po wn' rt qu ba pa mO mA st ct aO aA oC ou → wX_link_38 post (nI e) (k + 1) (nI n) 0 6 7 (nI mM) (nI mS) (nI mI) (nI mc) (nI sc) L (nI lc) qc cc (na_v ar) (na_v bd) (na_v bv) (na_v mo) (na_v z) (na_v fo) fa fn (na_v od) po wn rt qu ba pa mO mA st ct aO aA oC ou := by
  intro k
  induction k with
  | zero =>
    intro n z wn hn hz
    obtain rfl : n = 8 := by omega
    exact ⟨z, wn, fun b hb => rfl, hz, fun n' a b => absurd b (by omega), fun n' a => ⟨rfl, rfl⟩, fun post h => h⟩
  | succ k ih =>
    intro n z wn hn hz
    have hc := wi_cm_le (bd := bd) (bv := bv) (od := od) (n := n) hv lc
    obtain ⟨z', wn', a1, a2, a3, a4, a5⟩ := ih (n + 1) (na_u z (8 + n) (wi_cm bd bv od n lc)) (upd wn n (wi_wn bd bv od lc n)) (by omega) (fun b => by
      unfold na_u; split
      · exact hc
      · exact hz b)
    refine ⟨z', wn', fun b hb => ?_, a2, fun n' h1 h2 => ?_, fun n' h1 => ?_, fun post h => ?_⟩
    · rw [a1 b hb, na_un (by omega)]
    · by_cases q : n' = n
      · subst q
        obtain ⟨c1, c2⟩ := a4 n' (by omega)
        rw [c1, c2, na_us, pk_us]
        exact ⟨rfl, rfl⟩
      · exact a3 n' (by omega) h2
    · obtain ⟨c1, c2⟩ := a4 n' (by omega)
      rw [c1, c2, na_un (by omega), pk_un (by omega)]
      exact ⟨rfl, rfl⟩
    · exact pk_le 8 n (fun h => absurd h (by omega)) (fun _ => ⟨lc + 1, wi_x10 (by omega) hl ho hb6 hv (nm_r (nI_1 n) (a5 post h)) lc 0 (lc + 1) (by omega) (by omega)⟩)
end
end
section
/-! retaining: pure -/
theorem na_cn_mono {f g : Nat → Bool} : ∀ k, (∀ j, j < k → f j = true → g j = true) → na_cn f k ≤ na_cn g k
  | 0, _ => Nat.le_refl _
  | k + 1, h => by
    have ih := na_cn_mono k (fun j hj => h j (by omega))
    show na_cn f k + (if f k = true then 1 else 0) ≤ na_cn g k + (if g k = true then 1 else 0)
    by_cases q : f k = true
    · rw [if_pos q, if_pos (h k (by omega) q)]; omega
    · rw [if_neg q]; split <;> omega
theorem na_cn_eq {f g : Nat → Bool} : ∀ k, (∀ j, j < k → f j = true → g j = true) → na_cn g k ≤ na_cn f k → ∀ j, j < k → g j = true → f j = true
  | 0, _, _, j, hj, _ => absurd hj (by omega)
  | k + 1, h, hle, j, hj, hg => by
    have hm := na_cn_mono k (fun j hj => h j (by omega))
    have hle' : na_cn g k + (if g k = true then 1 else 0) ≤ na_cn f k + (if f k = true then 1 else 0) := hle
    by_cases q : f k = true
    · rw [if_pos q, if_pos (h k (by omega) q)] at hle'
      by_cases e : j = k
      · rw [e]; exact q
      · exact na_cn_eq k (fun j hj => h j (by omega)) (by omega) j (by omega) hg
    · rw [if_neg q] at hle'
      by_cases e : j = k
      · subst e
        rw [if_pos hg] at hle'
        omega
      · exact na_cn_eq k (fun j hj => h j (by omega)) (by revert hle'; split <;> omega) j (by omega) hg
def re_t (bd bv mo nN : Nat → Nat) (wn : Nat → Int32) (p : Nat) : Int32 := wi_me bd bv wn (mo (p / 8)) (nN p)
def re_R (bd bv mo fo nN : Nat → Nat) (wn : Nat → Int32) (s0 b : Nat) : Prop :=
  ∀ S : Nat → Prop, S s0 → (∀ p q, p < 64 → S (p / 8) → 7 ≤ fo p → q < 128 → re_t bd bv mo nN wn p = nI q → S (q / 8)) → S b
theorem re_R0 {bd bv mo fo nN : Nat → Nat} {wn : Nat → Int32} {s0 : Nat} : re_R bd bv mo fo nN wn s0 s0 := fun _ h _ => h
theorem re_Rs {bd bv mo fo nN : Nat → Nat} {wn : Nat → Int32} {s0 p q : Nat} (hp : p < 64) (h : re_R bd bv mo fo nN wn s0 (p / 8)) (h7 : 7 ≤ fo p) (hq : q < 128) (ht : re_t bd bv mo nN wn p = nI q) : re_R bd bv mo fo nN wn s0 (q / 8) :=
  fun S h0 hs => hs p q hp (h S h0 hs) h7 hq ht
def re_cl (bd bv mo fo nN : Nat → Nat) (wn rt : Nat → Int32) : Prop := ∀ p q, p < 64 → rt (p / 8) ≠ 0 → 7 ≤ fo p → q < 128 → re_t bd bv mo nN wn p = nI q → rt (q / 8) ≠ 0
theorem re_Rc {bd bv mo fo nN : Nat → Nat} {wn rt : Nat → Int32} {s0 b : Nat} (h0 : rt s0 ≠ 0) (hc : re_cl bd bv mo fo nN wn rt) (h : re_R bd bv mo fo nN wn s0 b) : rt b ≠ 0 :=
  h (fun b => rt b ≠ 0) h0 (fun p q hp hr h7 hq ht => hc p q hp hr h7 hq ht)
def re_n (rt : Nat → Int32) : Nat := na_cn (fun b => decide (rt b ≠ 0)) 16
/-- one step of Y's rounds: mono, and what was there has its targets -/
theorem re_gr {bd bv mo fo nN : Nat → Nat} {wn r0 r1 : Nat → Int32} {s0 t : Nat} (h0 : r0 s0 ≠ 0) (hm : ∀ b, b < 16 → r0 b ≠ 0 → r1 b ≠ 0) (hs : ∀ b, b < 16 → r1 b ≠ 0 → re_R bd bv mo fo nN wn s0 b)
    (hst : ∀ p q, p < 64 → r0 (p / 8) ≠ 0 → 7 ≤ fo p → q < 128 → re_t bd bv mo nN wn p = nI q → r1 (q / 8) ≠ 0) (hc : re_cl bd bv mo fo nN wn r0 ∨ t + 1 ≤ re_n r0) : re_cl bd bv mo fo nN wn r1 ∨ t + 2 ≤ re_n r1 := by
  have hmono : ∀ j, j < 16 → (fun b => decide (r0 b ≠ 0)) j = true → (fun b => decide (r1 b ≠ 0)) j = true := fun j hj q => decide_eq_true (hm j hj (of_decide_eq_true q))
  have hsame : (∀ b, b < 16 → r1 b ≠ 0 → r0 b ≠ 0) → re_cl bd bv mo fo nN wn r1 := fun hb p q hp hr h7 hq ht => hst p q hp (hb _ (by omega) hr) h7 hq ht
  rcases hc with hc | hc
  · exact Or.inl (hsame (fun b hb hr => re_Rc h0 hc (hs b hb hr)))
  · by_cases hle : re_n r1 ≤ re_n r0
    · refine Or.inl (hsame (fun b hb hr => ?_))
      exact of_decide_eq_true (na_cn_eq (f := fun b => decide (r0 b ≠ 0)) (g := fun b => decide (r1 b ≠ 0)) 16 hmono hle b hb (decide_eq_true hr))
    · exact Or.inr (by omega)
theorem wi_st_cs {bd bv od : Nat → Nat} {n : Nat} : ∀ l, wi_st bd bv od n l = -1 ∨ ∃ i, i < l ∧ bd (8 * od i + n) = 4 ∧ wi_st bd bv od n l = nI (bv (8 * od i + n))
  | 0 => Or.inl rfl
  | l + 1 => by
    show (if bd (8 * od l + n) = 4 then nI (bv (8 * od l + n)) else wi_st bd bv od n l) = -1 ∨ ∃ i, i < l + 1 ∧ bd (8 * od i + n) = 4 ∧ (if bd (8 * od l + n) = 4 then nI (bv (8 * od l + n)) else wi_st bd bv od n l) = nI (bv (8 * od i + n))
    by_cases h : bd (8 * od l + n) = 4
    · rw [if_pos h]; exact Or.inr ⟨l, by omega, h, rfl⟩
    · rw [if_neg h]
      rcases wi_st_cs l with a | ⟨i, a, b, c⟩
      · exact Or.inl a
      · exact Or.inr ⟨i, by omega, b, c⟩
theorem wi_wk_cs {bd bv od : Nat → Nat} {n : Nat} : ∀ l, wi_wk bd bv od n l = -1 ∨ ∃ i, i < l ∧ bd (8 * od i + n) = 5 ∧ wi_wk bd bv od n l = nI (bv (8 * od i + n))
  | 0 => Or.inl rfl
  | l + 1 => by
    show (if bd (8 * od l + n) = 5 ∧ wi_wk bd bv od n l = -1 then nI (bv (8 * od l + n)) else wi_wk bd bv od n l) = -1 ∨ ∃ i, i < l + 1 ∧ bd (8 * od i + n) = 5 ∧ (if bd (8 * od l + n) = 5 ∧ wi_wk bd bv od n l = -1 then nI (bv (8 * od l + n)) else wi_wk bd bv od n l) = nI (bv (8 * od i + n))
    by_cases h : bd (8 * od l + n) = 5 ∧ wi_wk bd bv od n l = -1
    · rw [if_pos h]; exact Or.inr ⟨l, by omega, h.1, rfl⟩
    · rw [if_neg h]
      rcases wi_wk_cs l with a | ⟨i, a, b, c⟩
      · exact Or.inl a
      · exact Or.inr ⟨i, by omega, b, c⟩
section
variable {mM mS mI mc sc lc : Nat} {ar bd bv mo z y fo nN od : Nat → Nat} {L qc cc cl : Int32} {fa fn po wn rt qu ba pa mO mA st ct aO aA oC ou ly rY kd vl aV cY : Nat → Int32}
variable {e s : Nat}
/-- a block whose module is loaded -/
def re_ld (lc sc : Nat) (mo od : Nat → Nat) (b : Nat) : Prop := b < 8 → b < sc ∧ ∃ i, i < lc ∧ mo b = od i
theorem wi_wn_cs (hF : fd_ok mM mS mI mc sc ar bd bv mo z y fo nN od fa fn) {n : Nat} (hn : n < 8) : wi_wn bd bv od lc n = -1 ∨ ∃ q, q < 128 ∧ wi_wn bd bv od lc n = nI q ∧ re_ld lc sc mo od (q / 8) := by
  obtain ⟨h1, h2, h3, h4, h5, h6, h7, h8, h9, h10, h11, h12, h13, h14, h15, h16, h17⟩ := hF
  unfold wi_wn
  by_cases hs : wi_st bd bv od n lc = -1
  · rw [if_pos hs]
    by_cases hc : wi_cm bd bv od n lc = 0
    · rw [if_pos hc]
      rcases wi_wk_cs (bd := bd) (bv := bv) (od := od) (n := n) lc with a | ⟨i, a, b, c⟩
      · exact Or.inl a
      · obtain ⟨w1, w2, w3⟩ := h6 _ (by omega : 3 ≤ bd (8 * od i + n)) (by omega)
        exact Or.inr ⟨_, by omega, c, fun _ => ⟨w2, i, a, by rw [w3]; omega⟩⟩
    · rw [if_neg hc]
      exact Or.inr ⟨8 * (8 + n), by omega, rfl, fun q => absurd q (by omega)⟩
  · rw [if_neg hs]
    rcases wi_st_cs (bd := bd) (bv := bv) (od := od) (n := n) lc with a | ⟨i, a, b, c⟩
    · exact absurd a hs
    · obtain ⟨w1, w2, w3⟩ := h6 _ (by omega : 3 ≤ bd (8 * od i + n)) (by omega)
      exact Or.inr ⟨_, by omega, c, fun _ => ⟨w2, i, a, by rw [w3]; omega⟩⟩
theorem re_tc (hF : fd_ok mM mS mI mc sc ar bd bv mo z y fo nN od fa fn) (hw : ∀ n, n < 8 → wn n = wi_wn bd bv od lc n) (p : Nat) : re_t bd bv mo nN wn p = -1 ∨ ∃ q, q < 128 ∧ re_t bd bv mo nN wn p = nI q := by
  have hF' := hF
  obtain ⟨h1, h2, h3, h4, h5, h6, h7, h8, h9, h10, h11, h12, h13, h14, h15, h16, h17⟩ := hF
  unfold re_t wi_me
  by_cases h : bd (8 * mo (p / 8) + nN p) = 3
  · rw [if_pos h]
    obtain ⟨w1, _⟩ := h6 _ (by omega : 3 ≤ bd (8 * mo (p / 8) + nN p)) (by omega)
    exact Or.inr ⟨_, by omega, rfl⟩
  · rw [if_neg h, hw _ (h14 p)]
    rcases wi_wn_cs (lc := lc) hF' (h14 p) with a | ⟨q, a, b, _⟩
    · exact Or.inl a
    · exact Or.inr ⟨q, a, b⟩
/-- what is retained is loaded -/
theorem re_rl (hF : fd_ok mM mS mI mc sc ar bd bv mo z y fo nN od fa fn) (hw : ∀ n, n < 8 → wn n = wi_wn bd bv od lc n) {s0 b : Nat} (h0 : re_ld lc sc mo od s0) (h : re_R bd bv mo fo nN wn s0 b) : re_ld lc sc mo od b := by
  have hF' := hF
  obtain ⟨h1, h2, h3, h4, h5, h6, h7, h8, h9, h10, h11, h12, h13, h14, h15, h16, h17⟩ := hF
  refine h (re_ld lc sc mo od) h0 (fun p q hp hr h7' hq ht => ?_)
  unfold re_t wi_me at ht
  have hn := h14 p
  by_cases hb : bd (8 * mo (p / 8) + nN p) = 3
  · rw [if_pos hb] at ht
    obtain ⟨w1, w2, w3⟩ := h6 _ (by omega : 3 ≤ bd (8 * mo (p / 8) + nN p)) (by omega)
    have eq := na_im ht (by omega) (by omega)
    obtain ⟨_, i, hi, ei⟩ := hr (by omega)
    rw [← eq]
    exact fun _ => ⟨w2, i, hi, by rw [w3, ← ei]; omega⟩
  · rw [if_neg hb, hw _ hn] at ht
    rcases wi_wn_cs (lc := lc) hF' hn with a | ⟨q', a, b', c⟩
    · rw [a] at ht; exact absurd ht.symm (na_ne1 (by omega))
    · rw [b'] at ht
      have := na_im ht (by omega) (by omega)
      subst this
      exact c
/-! Y's live -/
theorem re_yl {post : Int32 → Prop} {p : Nat} (hp : p < 64) (hop : fd_op (fo p)) (h1 : ¬ rY (p / 8) = 0 → 7 ≤ fo p → post 1) (h0 : ¬ (¬ rY (p / 8) = 0 ∧ 7 ≤ fo p) → post 0) : wpY_live post (nI mM, nI mS, nI mI, nI mc, nI sc, L, nI lc, cl, na_v ar, na_v mo, na_v y, na_v fo, na_v nN, fa, na_v bd, na_v bv, na_v od, ly, rY, kd, vl, ou, st, aO, aV, cY, oC) (nI p) := by
  have e8 : nI p / 8 = nI (p / 8) := na_d8 (by omega)
  have hf : fo p ≤ 22 := by unfold fd_op at hop; omega
  refine ⟨by decide, na_in e8 (by omega) (by decide), ?_⟩
  rw [e8, nI_clamp (by omega)]
  exact br_c (fun h => h0 (fun q => q.1 h)) (fun h => ⟨vp_in_nI hp (by decide), pk_lt (fo p) 7 (fun h7 => h0 (fun q => by omega)) (fun h7 => h1 h h7) (na_r (by omega))⟩)
theorem re_ym {post : Int32 → Prop} {p : Nat} (hp : p < 64) (hF : fd_ok mM mS mI mc sc ar bd bv mo z y fo nN od fa fn) (hl : lc ≤ 8) (hd : wi_nd bd od lc) (hw : ∀ n, n < 8 → wn n = wi_wn bd bv od lc n)
    (h : post (re_t bd bv mo nN wn p)) : wpY_meaning post (nI mM, nI mS, nI mI, nI mc, nI sc, L, nI lc, cl, na_v ar, na_v mo, na_v y, na_v fo, na_v nN, fa, na_v bd, na_v bv, na_v od, ly, rY, kd, vl, ou, st, aO, aV, cY, oC) (na_v mo (nI p / 8).toNatClampNeg) (na_v nN (nI p).toNatClampNeg) := by
  rw [na_d8 (by omega), na_r (by omega), na_r (by omega)]
  have h7 := hF.2.2.2.2.2.2.1 (p / 8)
  have h14 := hF.2.2.2.2.2.2.2.2.2.2.2.2.2.1 p
  exact wi_ym h7 h14 hF hl hd (hw _ h14) h
/-! Y's start -/
theorem re_y108 (hs : s < 128) : ∀ (k i : Nat) (rY : Nat → Int32), i + k = 16 → (∀ b, b < i → rY b = if b = s / 8 then 1 else 0) → ∃ rY', (∀ b, b < 16 → rY' b = if b = s / 8 then 1 else 0) ∧
    ∀ (post : Int32 → SY → Prop) (f : Nat), k < f → (∃ n141, wY_link_141 post (nI e) (nI s) (nI mM) (nI mS) (nI mI) (nI mc) (nI sc) L (nI lc) cl n141 0 (na_v ar) (na_v mo) (na_v y) (na_v fo) (na_v nN) fa (na_v bd) (na_v bv) (na_v od) ly rY' kd vl ou st aO aV cY oC) → wY_link_108 post (nI e) (nI s) (nI mM) (nI mS) (nI mI) (nI mc) (nI sc) L (nI lc) cl f (nI i) (na_v ar) (na_v mo) (na_v y) (na_v fo) (na_v nN) fa (na_v bd) (na_v bv) (na_v od) ly rY kd vl ou st aO aV cY oC := by
  intro k
  induction k with
  | zero =>
    intro i rY hi h
    refine ⟨rY, fun j hj => h j (by omega), fun post f hf hp => ?_⟩
    obtain ⟨f, rfl⟩ := na_fu hf
    exact pk_le 16 i (fun _ => hp) (fun h => absurd h (by omega))
  | succ k ih =>
    intro i rY hi h
    obtain ⟨rY', h1, h2⟩ := ih (i + 1) (upd rY i (if i = s / 8 then 1 else 0)) (by omega) (fun j hj => by
      by_cases q : j = i
      · rw [q, pk_us]
      · rw [pk_un q]; exact h j (by omega))
    refine ⟨rY', h1, fun post f hf hp => ?_⟩
    obtain ⟨f, rfl⟩ := na_fu hf
    have h3 := h2 post f (by omega) hp
    refine pk_le 16 i (fun h => absurd h (by omega)) (fun _ => ⟨by decide, pk_eq i (s / 8) (fun q => ⟨vp_in_nI (by omega) (by decide), nm_r (e' := upd rY i 1) (by rw [na_b1]; exact na_uc (by omega)) (nm_r (nI_1 i) ?_)⟩) (fun q => ⟨vp_in_nI (by omega) (by decide), nm_r (e' := upd rY i 0) (by rw [na_b0]; exact na_uc (by omega)) (nm_r (nI_1 i) ?_)⟩) rfl (na_d8 (by omega))⟩)
    · rw [if_pos q] at h3; exact h3
    · rw [if_neg q] at h3; exact h3
/-! Y's sweep -/
theorem re_y150 (hF : fd_ok mM mS mI mc sc ar bd bv mo z y fo nN od fa fn) (hl : lc ≤ 8) (hd : wi_nd bd od lc) (hw : ∀ n, n < 8 → wn n = wi_wn bd bv od lc n) {s0 t : Nat} (ht16 : t < 16) :
    ∀ (k p : Nat) (rY : Nat → Int32), p + k = 64 → (∀ b, b < 16 → rY b ≠ 0 → re_R bd bv mo fo nN wn s0 b) → ∃ rY', (∀ b, b < 16 → rY b ≠ 0 → rY' b ≠ 0) ∧ (∀ b, b < 16 → rY' b ≠ 0 → re_R bd bv mo fo nN wn s0 b) ∧
      (∀ p' q, p ≤ p' → p' < 64 → rY (p' / 8) ≠ 0 → 7 ≤ fo p' → q < 128 → re_t bd bv mo nN wn p' = nI q → rY' (q / 8) ≠ 0) ∧
      ∀ (post : Int32 → SY → Prop) J141 (f : Nat), k < f → J141 (nI (t + 1)) (na_v ar) (na_v mo) (na_v y) (na_v fo) (na_v nN) fa (na_v bd) (na_v bv) (na_v od) ly rY' kd vl ou st aO aV cY oC → wY_link_150 post J141 (nI e) (nI s) (nI t) (nI mM) (nI mS) (nI mI) (nI mc) (nI sc) L (nI lc) cl f (nI p) (na_v ar) (na_v mo) (na_v y) (na_v fo) (na_v nN) fa (na_v bd) (na_v bv) (na_v od) ly rY kd vl ou st aO aV cY oC := by
  intro k
  induction k with
  | zero =>
    intro p rY hp hs
    refine ⟨rY, fun b hb h => h, hs, fun p' q h1 h2 => absurd h2 (by omega), fun post J141 f hf h => ?_⟩
    obtain ⟨f, rfl⟩ := na_fu hf
    exact pk_le 64 p (fun _ => nm_r (nI_1 t) h) (fun h => absurd h (by omega))
  | succ k ih =>
    intro p rY hp hs
    have hop := hF.2.2.2.2.2.2.2.2.2.2.2.1 p
    have hi8 : vp_in (nI p / 8) 8 := na_in (na_d8 (by omega)) (by omega) (by decide)
    by_cases hlive : ¬ rY (p / 8) = 0 ∧ 7 ≤ fo p
    · rcases re_tc (lc := lc) hF hw p with ht | ⟨q, hq, ht⟩
      · obtain ⟨rY', a1, a2, a3, a4⟩ := ih (p + 1) rY (by omega) hs
        refine ⟨rY', a1, a2, fun p' q h1 h2 h3 h4 h5 h6 => ?_, fun post J141 f hf h => ?_⟩
        · by_cases eq : p' = p
          · subst eq
            rw [ht] at h6; exact absurd h6.symm (na_ne1 (by omega))
          · exact a3 p' q (by omega) h2 h3 h4 h5 h6
        · obtain ⟨f, rfl⟩ := na_fu hf
          refine pk_le 64 p (fun h => absurd h (by omega)) (fun _ => re_yl (by omega) hop (fun _ _ => br_f (by decide) ⟨by decide, hi8, vp_in_nI (by omega) (by decide), re_ym (by omega) hF hl hd hw ?_⟩) (fun h => absurd hlive h))
          rw [ht]
          exact br_t rfl (nm_r (nI_1 p) (a4 post J141 f (by omega) h))
      · have hRq : re_R bd bv mo fo nN wn s0 (q / 8) := re_Rs (by omega) (hs _ (by omega) hlive.1) hlive.2 hq ht
        obtain ⟨rY', a1, a2, a3, a4⟩ := ih (p + 1) (upd rY (q / 8) 1) (by omega) (fun b hb h => by
          by_cases eq : b = q / 8
          · rw [eq]; exact hRq
          · rw [pk_un eq] at h; exact hs b hb h)
        have hup : ∀ b, rY b ≠ 0 → upd rY (q / 8) 1 b ≠ 0 := fun b h => by
          by_cases eq : b = q / 8
          · rw [eq, pk_us]; decide
          · rw [pk_un eq]; exact h
        refine ⟨rY', fun b hb h => a1 b hb (hup b h), a2, fun p' q' h1 h2 h3 h4 h5 h6 => ?_, fun post J141 f hf h => ?_⟩
        · by_cases eq : p' = p
          · subst eq
            obtain rfl : q = q' := na_im (ht.symm.trans h6) (by omega) (by omega)
            exact a1 _ (by omega) (by rw [pk_us]; decide)
          · exact a3 p' q' (by omega) h2 (hup _ h3) h4 h5 h6
        · obtain ⟨f, rfl⟩ := na_fu hf
          refine pk_le 64 p (fun h => absurd h (by omega)) (fun _ => re_yl (by omega) hop (fun _ _ => br_f (by decide) ⟨by decide, hi8, vp_in_nI (by omega) (by decide), re_ym (by omega) hF hl hd hw ?_⟩) (fun h => absurd hlive h))
          rw [ht]
          refine br_f (na_ne1 (by omega)) ⟨by decide, na_in (na_d8 (by omega)) (by omega) (by decide), nm_r (e' := upd rY (q / 8) 1) (by rw [na_b1, na_d8 (by omega), nI_clamp (by omega)]) (nm_r (nI_1 p) (a4 post J141 f (by omega) h))⟩
    · obtain ⟨rY', a1, a2, a3, a4⟩ := ih (p + 1) rY (by omega) hs
      refine ⟨rY', a1, a2, fun p' q h1 h2 h3 h4 h5 h6 => ?_, fun post J141 f hf h => ?_⟩
      · by_cases eq : p' = p
        · subst eq
          exact absurd ⟨h3, h4⟩ hlive
        · exact a3 p' q (by omega) h2 h3 h4 h5 h6
      · obtain ⟨f, rfl⟩ := na_fu hf
        exact pk_le 64 p (fun h => absurd h (by omega)) (fun _ => re_yl (by omega) hop (fun q1 q2 => absurd ⟨q1, q2⟩ hlive) (fun _ => br_t rfl (br_t rfl (nm_r (nI_1 p) (a4 post J141 f (by omega) h)))))
/-! Y's rounds -/
theorem re_y141 (hF : fd_ok mM mS mI mc sc ar bd bv mo z y fo nN od fa fn) (hl : lc ≤ 8) (hd : wi_nd bd od lc) (hw : ∀ n, n < 8 → wn n = wi_wn bd bv od lc n) {s0 : Nat} (hs0 : s0 < 16) :
    ∀ (k t : Nat) (rY : Nat → Int32), t + k = 16 → (∀ b, b < 16 → rY b ≠ 0 → re_R bd bv mo fo nN wn s0 b) → rY s0 ≠ 0 → (re_cl bd bv mo fo nN wn rY ∨ t + 1 ≤ re_n rY) → ∃ rY', (∀ b, b < 16 → (rY' b ≠ 0 ↔ re_R bd bv mo fo nN wn s0 b)) ∧
      ∀ (post : Int32 → SY → Prop) (f : Nat), k < f → (∃ n224, wY_link_224 post (nI e) (nI s) (nI mM) (nI mS) (nI mI) (nI mc) (nI sc) L (nI lc) cl (na_v ar) (na_v mo) (na_v y) (na_v fo) (na_v nN) fa (na_v bd) (na_v bv) (na_v od) ly rY' kd vl ou st aO aV cY oC n224 0) → wY_link_141 post (nI e) (nI s) (nI mM) (nI mS) (nI mI) (nI mc) (nI sc) L (nI lc) cl f (nI t) (na_v ar) (na_v mo) (na_v y) (na_v fo) (na_v nN) fa (na_v bd) (na_v bv) (na_v od) ly rY kd vl ou st aO aV cY oC := by
  intro k
  induction k with
  | zero =>
    intro t rY ht hs h0 hc
    have hle : re_n rY ≤ 16 := na_cn_le _ 16
    have hcl : re_cl bd bv mo fo nN wn rY := hc.resolve_right (by omega)
    refine ⟨rY, fun b hb => ⟨hs b hb, re_Rc h0 hcl⟩, fun post f hf h => ?_⟩
    obtain ⟨f, rfl⟩ := na_fu hf
    exact pk_le 16 t (fun _ => h) (fun h => absurd h (by omega))
  | succ k ih =>
    intro t rY ht hs h0 hc
    obtain ⟨r1, a1, a2, a3, a4⟩ := re_y150 (mM := mM) (mS := mS) (mI := mI) (mc := mc) (sc := sc) (lc := lc) (ar := ar) (bd := bd) (bv := bv) (mo := mo) (y := y) (fo := fo) (nN := nN) (od := od) (L := L) (cl := cl) (fa := fa) (st := st) (aO := aO) (oC := oC) (ou := ou) (ly := ly) (kd := kd) (vl := vl) (aV := aV) (cY := cY) (e := e) (s := s) (s0 := s0) (t := t) hF hl hd hw (by omega) 64 0 rY (by omega) hs
    obtain ⟨r2, b1, b2⟩ := ih (t + 1) r1 (by omega) a2 (a1 s0 hs0 h0) (re_gr h0 a1 a2 (fun p q hp hr h7 hq ht => a3 p q (by omega) hp hr h7 hq ht) hc)
    refine ⟨r2, b1, fun post f hf h => ?_⟩
    obtain ⟨f, rfl⟩ := na_fu hf
    exact pk_le 16 t (fun h => absurd h (by omega)) (fun _ => ⟨65, a4 post _ 65 (by omega) (b2 post f (by omega) h)⟩)
theorem re_ya (hF : fd_ok mM mS mI mc sc ar bd bv mo z y fo nN od fa fn) (hl : lc ≤ 8) (hd : wi_nd bd od lc) (hw : ∀ n, n < 8 → wn n = wi_wn bd bv od lc n) (hs : s < 128) :
    ∃ rY', (∀ b, b < 16 → (rY' b ≠ 0 ↔ re_R bd bv mo fo nN wn (s / 8) b)) ∧
      ∀ (post : Int32 → SY → Prop), (∃ n224, wY_link_224 post (nI e) (nI s) (nI mM) (nI mS) (nI mI) (nI mc) (nI sc) L (nI lc) cl (na_v ar) (na_v mo) (na_v y) (na_v fo) (na_v nN) fa (na_v bd) (na_v bv) (na_v od) ly rY' kd vl ou st aO aV cY oC n224 0) → ∃ n108, wY_link_108 post (nI e) (nI s) (nI mM) (nI mS) (nI mI) (nI mc) (nI sc) L (nI lc) cl n108 0 (na_v ar) (na_v mo) (na_v y) (na_v fo) (na_v nN) fa (na_v bd) (na_v bv) (na_v od) ly rY kd vl ou st aO aV cY oC := by
  obtain ⟨r1, a1, a2⟩ := re_y108 (mM := mM) (mS := mS) (mI := mI) (mc := mc) (sc := sc) (lc := lc) (ar := ar) (bd := bd) (bv := bv) (mo := mo) (y := y) (fo := fo) (nN := nN) (od := od) (L := L) (cl := cl) (fa := fa) (st := st) (aO := aO) (oC := oC) (ou := ou) (ly := ly) (kd := kd) (vl := vl) (aV := aV) (cY := cY) (e := e) hs 16 0 rY (by omega) (fun b hb => absurd hb (by omega))
  have h0 : r1 (s / 8) ≠ 0 := by rw [a1 _ (by omega), if_pos rfl]; decide
  obtain ⟨r2, b1, b2⟩ := re_y141 (mM := mM) (mS := mS) (mI := mI) (mc := mc) (sc := sc) (lc := lc) (ar := ar) (bd := bd) (bv := bv) (mo := mo) (y := y) (fo := fo) (nN := nN) (od := od) (L := L) (cl := cl) (fa := fa) (st := st) (aO := aO) (oC := oC) (ou := ou) (ly := ly) (kd := kd) (vl := vl) (aV := aV) (cY := cY) (e := e) (s := s) (s0 := s / 8) hF hl hd hw (by omega) 16 0 r1 (by omega) (fun b hb h => by
      by_cases q : b = s / 8
      · rw [q]; exact re_R0
      · rw [a1 b hb, if_neg q] at h; exact absurd rfl h) h0 (Or.inr (na_cn_pos (f := fun b => decide (r1 b ≠ 0)) (decide_eq_true h0) 16 (by omega)))
  exact ⟨r2, b1, fun post h => ⟨17, a2 post 17 (by omega) ⟨17, b2 post 17 (by omega) h⟩⟩⟩
end
end
section
/-- X's queue -/
def re_q (R : Nat → Prop) (qn : Nat) (rt qu : Nat → Int32) : Prop :=
  qn = re_n rt ∧ (∀ j, j < qn → ∃ b, b < 16 ∧ qu j = nI b ∧ rt b ≠ 0) ∧ (∀ b, b < 16 → rt b ≠ 0 → ∃ j, j < qn ∧ qu j = nI b) ∧ (∀ b, b < 16 → rt b ≠ 0 → R b)
theorem re_qu {R : Nat → Prop} {qn b : Nat} {rt qu : Nat → Int32} (h : re_q R qn rt qu) (hb : b < 16) (hR : R b) (h0 : rt b = 0) : re_q R (qn + 1) (upd rt b 1) (upd qu qn (nI b)) := by
  obtain ⟨h1, h2, h3, h4⟩ := h
  refine ⟨?_, fun j hj => ?_, fun c hc hr => ?_, fun c hc hr => ?_⟩
  · have := na_cn_up (f := fun b => decide (rt b ≠ 0)) (g := fun c => decide (upd rt b 1 c ≠ 0)) (j := b) (decide_eq_false (fun q => q h0)) (decide_eq_true (by rw [pk_us]; decide)) (fun i hi => by rw [pk_un hi]) 16 hb
    unfold re_n at h1 ⊢
    omega
  · by_cases e : j = qn
    · subst e
      exact ⟨b, hb, pk_us, by rw [pk_us]; decide⟩
    · obtain ⟨c, c1, c2, c3⟩ := h2 j (by omega)
      refine ⟨c, c1, by rw [pk_un e]; exact c2, ?_⟩
      by_cases e2 : c = b
      · rw [e2, pk_us]; decide
      · rw [pk_un e2]; exact c3
  · by_cases e : c = b
    · subst e
      exact ⟨qn, by omega, pk_us⟩
    · rw [pk_un e] at hr
      obtain ⟨j, j1, j2⟩ := h3 c hc hr
      exact ⟨j, by omega, by rw [pk_un (by omega)]; exact j2⟩
  · by_cases e : c = b
    · rw [e]; exact hR
    · rw [pk_un e] at hr; exact h4 c hc hr
section
variable {mM mS mI mc sc lc : Nat} {ar bd bv mo z y fo nN od : Nat → Nat} {L qc cc cl : Int32} {fa fn po wn rt qu ba pa mO mA st ct aO aA oC ou ly rY kd vl aV cY : Nat → Int32}
variable {e : Nat}
/-! X's retain -/
theorem re_xr {R : Nat → Prop} {qn b : Nat} (h : re_q R qn rt qu) (hb : b < 16) (hR : R b) : ∃ (qn' : Nat) (rt' qu' : Nat → Int32), re_q R qn' rt' qu' ∧ rt' b ≠ 0 ∧ (∀ c, rt c ≠ 0 → rt' c ≠ 0) ∧ qn ≤ qn' ∧ (∀ j, j < qn → qu' j = qu j) ∧
    ∀ post : SX → Prop, post (0, 6, 7, nI mM, nI mS, nI mI, nI mc, nI sc, L, nI lc, nI qn', cc, na_v ar, na_v bd, na_v bv, na_v mo, na_v z, na_v fo, fa, fn, na_v od, po, wn, rt', qu', ba, pa, mO, mA, st, ct, aO, aA, oC, ou) → wpX_retain post (0, 6, 7, nI mM, nI mS, nI mI, nI mc, nI sc, L, nI lc, nI qn, cc, na_v ar, na_v bd, na_v bv, na_v mo, na_v z, na_v fo, fa, fn, na_v od, po, wn, rt, qu, ba, pa, mO, mA, st, ct, aO, aA, oC, ou) (nI b) := by
  have hin : vp_in (nI b) 16 := vp_in_nI hb (by decide)
  by_cases h0 : rt b = 0
  · have hlt : re_n rt < 16 := na_cn_lt (f := fun b => decide (rt b ≠ 0)) (decide_eq_false (fun q => q h0)) 16 hb
    have h1 := h.1
    refine ⟨qn + 1, upd rt b 1, upd qu qn (nI b), re_qu h hb hR h0, by rw [pk_us]; decide, fun c hc => ?_, by omega, fun j hj => pk_un (by omega), fun post hp => ?_⟩
    · by_cases q : c = b
      · rw [q, pk_us]; decide
      · rw [pk_un q]; exact hc
    · exact ⟨hin, br_t (by rw [nI_clamp (by omega)]; exact h0) ⟨hin, nm_r (e' := upd rt b 1) (by rw [na_b1]; exact na_uc (by omega)) ⟨vp_in_nI (by omega) (by decide), nm_r (na_uc (by omega)) (nm_r (nI_1 qn) hp)⟩⟩⟩
  · exact ⟨qn, rt, qu, h, h0, fun c hc => hc, Nat.le_refl _, fun j hj => rfl, fun post hp => ⟨hin, br_f (by rw [nI_clamp (by omega)]; exact h0) hp⟩⟩
/-! X's cellMeaning -/
theorem re_xc {post : Int32 → Prop} {p : Nat} (hp : p < 64) (hF : fd_ok mM mS mI mc sc ar bd bv mo z y fo nN od fa fn) (h7 : 7 ≤ fo p) (h : post (re_t bd bv mo nN wn p)) : wpX_cellMeaning post (0, 6, 7, nI mM, nI mS, nI mI, nI mc, nI sc, L, nI lc, qc, cc, na_v ar, na_v bd, na_v bv, na_v mo, na_v z, na_v fo, fa, fn, na_v od, po, wn, rt, qu, ba, pa, mO, mA, st, ct, aO, aA, oC, ou) (nI p) := by
  obtain ⟨h1, h2, h3, h4, h5, h6, h7', h8, h9, h10, h11, h12, h13, h14, h15, h16, h17⟩ := hF
  have hz : p % 8 < z (p / 8) := Nat.lt_of_not_le (fun q => by have := h13 p hp q; omega)
  have efn := h16 p hp hz
  rw [if_neg (by omega)] at efn
  refine ⟨na_in (na_s3 (by omega)) (by omega) (by decide), vp_in_nI hp (by decide), ?_⟩
  rw [na_s3 (by omega), na_r (by omega), nI_clamp (by omega), efn]
  exact wi_xm (h7' _) (h14 p) (h3 _) h
/-! X's followSection -/
theorem re_xf (hF : fd_ok mM mS mI mc sc ar bd bv mo z y fo nN od fa fn) (hw : ∀ n, n < 8 → wn n = wi_wn bd bv od lc n) {s0 s : Nat} (hs : s < 8) (hR : re_R bd bv mo fo nN wn s0 s) :
    ∀ (k o qn : Nat) (rt qu : Nat → Int32), o + k = z s → re_q (re_R bd bv mo fo nN wn s0) qn rt qu → ∃ (qn' : Nat) (rt' qu' : Nat → Int32), re_q (re_R bd bv mo fo nN wn s0) qn' rt' qu' ∧ (∀ c, rt c ≠ 0 → rt' c ≠ 0) ∧ qn ≤ qn' ∧ (∀ j, j < qn → qu' j = qu j) ∧
      (∀ o' q, o ≤ o' → o' < z s → 7 ≤ fo (8 * s + o') → q < 128 → re_t bd bv mo nN wn (8 * s + o') = nI q → rt' (q / 8) ≠ 0) ∧
      ∀ (post : SX → Prop) (f : Nat), k < f → post (0, 6, 7, nI mM, nI mS, nI mI, nI mc, nI sc, L, nI lc, nI qn', cc, na_v ar, na_v bd, na_v bv, na_v mo, na_v z, na_v fo, fa, fn, na_v od, po, wn, rt', qu', ba, pa, mO, mA, st, ct, aO, aA, oC, ou) → wX_followSection_2 post (nI s) f (nI o) 0 6 7 (nI mM) (nI mS) (nI mI) (nI mc) (nI sc) L (nI lc) (nI qn) cc (na_v ar) (na_v bd) (na_v bv) (na_v mo) (na_v z) (na_v fo) fa fn (na_v od) po wn rt qu ba pa mO mA st ct aO aA oC ou := by
  have hz8 : z s ≤ 8 := hF.2.2.2.2.2.2.2.2.1 s
  intro k
  induction k with
  | zero =>
    intro o qn rt qu ho hq
    refine ⟨qn, rt, qu, hq, fun c hc => hc, Nat.le_refl _, fun j hj => rfl, fun o' q h1 h2 => absurd h2 (by omega), fun post f hf hp => ?_⟩
    obtain ⟨f, rfl⟩ := na_fu hf
    exact ⟨vp_in_nI (by omega) (by decide), pk_le (z s) o (fun _ => hp) (fun h => absurd h (by omega)) (na_r (by omega))⟩
  | succ k ih =>
    intro o qn rt qu ho hq
    have hs16 : vp_in (nI s) 16 := vp_in_nI (by omega) (by decide)
    have hp64 : vp_in (nI (8 * s + o)) 64 := vp_in_nI (by omega) (by decide)
    have hop := hF.2.2.2.2.2.2.2.2.2.2.2.1 (8 * s + o)
    have efn := hF.2.2.2.2.2.2.2.2.2.2.2.2.2.2.2.1 (8 * s + o) (by omega) (by rw [show (8 * s + o) % 8 = o from by omega, show (8 * s + o) / 8 = s from by omega]; omega)
    have hn8 := hF.2.2.2.2.2.2.2.2.2.2.2.2.2.1 (8 * s + o)
    by_cases h7 : 7 ≤ fo (8 * s + o)
    · rw [if_neg (by omega)] at efn
      have efn' : ¬ fn (nI (8 * s + o)).toNatClampNeg < 0 := by rw [nI_clamp (by omega), efn]; exact nI_pos (by omega)
      rcases re_tc (lc := lc) hF hw (8 * s + o) with ht | ⟨q, hq128, ht⟩
      · obtain ⟨qn', rt', qu', a1, a2, a3, a4, a5, a6⟩ := ih (o + 1) qn rt qu (by omega) hq
        refine ⟨qn', rt', qu', a1, a2, a3, a4, fun o' q h1 h2 h3 h4 h5 => ?_, fun post f hf hp => ?_⟩
        · by_cases eq : o' = o
          · subst eq
            rw [ht] at h5; exact absurd h5.symm (na_ne1 (by omega))
          · exact a5 o' q (by omega) h2 h3 h4 h5
        · obtain ⟨f, rfl⟩ := na_fu hf
          refine ⟨hs16, pk_le (z s) o (fun h => absurd h (by omega)) (fun _ => nm_r (na_8 s o) ⟨hp64, br_f efn' (re_xc (by omega) hF h7 ?_)⟩) (na_r (by omega))⟩
          rw [ht]
          exact br_t rfl (nm_r (nI_1 o) (a6 post f (by omega) hp))
      · have hRq : re_R bd bv mo fo nN wn s0 (q / 8) := re_Rs (p := 8 * s + o) (by omega) (by rw [show (8 * s + o) / 8 = s from by omega]; exact hR) h7 hq128 ht
        obtain ⟨qn1, rt1, qu1, b1, b2, b3, b4, b5, b6⟩ := re_xr (mM := mM) (mS := mS) (mI := mI) (mc := mc) (sc := sc) (lc := lc) (ar := ar) (bd := bd) (bv := bv) (mo := mo) (z := z) (fo := fo) (od := od) (L := L) (cc := cc) (fa := fa) (fn := fn) (po := po) (wn := wn) (ba := ba) (pa := pa) (mO := mO) (mA := mA) (st := st) (ct := ct) (aO := aO) (aA := aA) (oC := oC) (ou := ou) (b := q / 8) hq (by omega) hRq
        obtain ⟨qn', rt', qu', a1, a2, a3, a4, a5, a6⟩ := ih (o + 1) qn1 rt1 qu1 (by omega) b1
        refine ⟨qn', rt', qu', a1, fun c hc => a2 c (b3 c hc), by omega, fun j hj => by rw [a4 j (by omega), b5 j hj], fun o' q' h1 h2 h3 h4 h5 => ?_, fun post f hf hp => ?_⟩
        · by_cases eq : o' = o
          · subst eq
            obtain rfl : q = q' := na_im (ht.symm.trans h5) (by omega) (by omega)
            exact a2 _ b2
          · exact a5 o' q' (by omega) h2 h3 h4 h5
        · obtain ⟨f, rfl⟩ := na_fu hf
          refine ⟨hs16, pk_le (z s) o (fun h => absurd h (by omega)) (fun _ => nm_r (na_8 s o) ⟨hp64, br_f efn' (re_xc (by omega) hF h7 ?_)⟩) (na_r (by omega))⟩
          rw [ht]
          refine br_f (na_ne1 (by omega)) ?_
          rw [na_s3 (by omega)]
          exact b6 _ (nm_r (nI_1 o) (a6 post f (by omega) hp))
    · rw [if_pos (by omega)] at efn
      have efn' : fn (nI (8 * s + o)).toNatClampNeg < 0 := by rw [nI_clamp (by omega), efn]; exact na_m1lt
      obtain ⟨qn', rt', qu', a1, a2, a3, a4, a5, a6⟩ := ih (o + 1) qn rt qu (by omega) hq
      refine ⟨qn', rt', qu', a1, a2, a3, a4, fun o' q h1 h2 h3 h4 h5 => ?_, fun post f hf hp => ?_⟩
      · by_cases eq : o' = o
        · subst eq
          exact absurd h3 h7
        · exact a5 o' q (by omega) h2 h3 h4 h5
      · obtain ⟨f, rfl⟩ := na_fu hf
        exact ⟨hs16, pk_le (z s) o (fun h => absurd h (by omega)) (fun _ => nm_r (na_8 s o) ⟨hp64, br_t efn' (nm_r (nI_1 o) (a6 post f (by omega) hp))⟩) (na_r (by omega))⟩
/-- what the first i of the queue lead to is retained -/
def re_pr (bd bv mo fo nN : Nat → Nat) (wn rt qu : Nat → Int32) (i : Nat) : Prop := ∀ j p q, j < i → p < 64 → qu j = nI (p / 8) → 7 ≤ fo p → q < 128 → re_t bd bv mo nN wn p = nI q → rt (q / 8) ≠ 0
theorem re_pc {R : Nat → Prop} {qn i : Nat} (h : re_q R qn rt qu) (hi : qn ≤ i) (hp : re_pr bd bv mo fo nN wn rt qu i) : re_cl bd bv mo fo nN wn rt := by
  intro p q hp64 hr h7 hq ht
  obtain ⟨j, hj, ej⟩ := h.2.2.1 (p / 8) (by omega) hr
  exact hp j p q (by omega) hp64 ej h7 hq ht
/-! X's search -/
theorem re_xb (hF : fd_ok mM mS mI mc sc ar bd bv mo z y fo nN od fa fn) (hw : ∀ n, n < 8 → wn n = wi_wn bd bv od lc n) {s0 : Nat} :
    ∀ (k i qn : Nat) (rt qu : Nat → Int32), i + k = 16 → i ≤ qn → re_q (re_R bd bv mo fo nN wn s0) qn rt qu → re_pr bd bv mo fo nN wn rt qu i → ∃ (qn' : Nat) (rt' qu' : Nat → Int32), re_q (re_R bd bv mo fo nN wn s0) qn' rt' qu' ∧ (∀ c, rt c ≠ 0 → rt' c ≠ 0) ∧ re_cl bd bv mo fo nN wn rt' ∧
      ∀ (post : SX → Prop) (f : Nat), k < f → post (0, 6, 7, nI mM, nI mS, nI mI, nI mc, nI sc, L, nI lc, nI qn', cc, na_v ar, na_v bd, na_v bv, na_v mo, na_v z, na_v fo, fa, fn, na_v od, po, wn, rt', qu', ba, pa, mO, mA, st, ct, aO, aA, oC, ou) → wX_retainBlocks_40 post f (nI i) 0 6 7 (nI mM) (nI mS) (nI mI) (nI mc) (nI sc) L (nI lc) (nI qn) cc (na_v ar) (na_v bd) (na_v bv) (na_v mo) (na_v z) (na_v fo) fa fn (na_v od) po wn rt qu ba pa mO mA st ct aO aA oC ou := by
  intro k
  induction k with
  | zero =>
    intro i qn rt qu hi hle hq hpr
    have h16 : re_n rt ≤ 16 := na_cn_le _ 16
    have hq1 := hq.1
    refine ⟨qn, rt, qu, hq, fun c hc => hc, re_pc hq (by omega) hpr, fun post f hf hp => ?_⟩
    obtain ⟨f, rfl⟩ := na_fu hf
    exact pk_le 16 i (fun _ => hp) (fun h => absurd h (by omega))
  | succ k ih =>
    intro i qn rt qu hi hle hq hpr
    have h16 : re_n rt ≤ 16 := na_cn_le _ 16
    have hq1 := hq.1
    by_cases hend : qn ≤ i
    · refine ⟨qn, rt, qu, hq, fun c hc => hc, re_pc hq hend hpr, fun post f hf hp => ?_⟩
      obtain ⟨f, rfl⟩ := na_fu hf
      exact pk_le 16 i (fun h => absurd h (by omega)) (fun _ => pk_le qn i (fun _ => hp) (fun h => absurd h (by omega)))
    · obtain ⟨b, hb, eb, hrb⟩ := hq.2.1 i (by omega)
      have hin : vp_in (nI i) 16 := vp_in_nI (by omega) (by decide)
      have ei : qu (nI i).toNatClampNeg = nI b := by rw [nI_clamp (by omega), eb]
      by_cases hb8 : b < 8
      · obtain ⟨qn1, rt1, qu1, b1, b2, b3, b4, b5, b6⟩ := re_xf (mM := mM) (mS := mS) (mI := mI) (mc := mc) (sc := sc) (lc := lc) (ar := ar) (bd := bd) (bv := bv) (mo := mo) (z := z) (fo := fo) (od := od) (L := L) (cc := cc) (fa := fa) (fn := fn) (po := po) (wn := wn) (ba := ba) (pa := pa) (mO := mO) (mA := mA) (st := st) (ct := ct) (aO := aO) (aA := aA) (oC := oC) (ou := ou) (s := b) hF hw hb8 (hq.2.2.2 b hb hrb) (z b) 0 qn rt qu (by omega) hq
        have hpr' : re_pr bd bv mo fo nN wn rt1 qu1 (i + 1) := by
          intro j p q hj hp64 ej h7 hq128 ht
          by_cases eq : j = i
          · subst eq
            rw [b4 j (by omega), eb] at ej
            have ep : b = p / 8 := na_im ej (by omega) (by omega)
            have hz : p % 8 < z (p / 8) := Nat.lt_of_not_le (fun q => by have := hF.2.2.2.2.2.2.2.2.2.2.2.2.1 p hp64 q; omega)
            rw [← ep] at hz
            have e8 : 8 * b + p % 8 = p := by omega
            exact b5 (p % 8) q (by omega) hz (by rw [e8]; exact h7) hq128 (by rw [e8]; exact ht)
          · rw [b4 j (by omega)] at ej
            exact b2 _ (hpr j p q (by omega) hp64 ej h7 hq128 ht)
        obtain ⟨qn', rt', qu', a1, a2, a3, a4⟩ := ih (i + 1) qn1 rt1 qu1 (by omega) (by omega) b1 hpr'
        refine ⟨qn', rt', qu', a1, fun c hc => a2 c (b2 c hc), a3, fun post f hf hp => ?_⟩
        obtain ⟨f, rfl⟩ := na_fu hf
        refine pk_le 16 i (fun h => absurd h (by omega)) (fun _ => pk_le qn i (fun h => absurd h (by omega)) (fun _ => ⟨hin, pk_le 8 b (fun h => absurd h (by omega)) (fun _ => ⟨hin, ?_⟩) rfl ei⟩))
        rw [ei]
        exact ⟨z b + 1, b6 _ (z b + 1) (by omega) (nm_r (nI_1 i) (a4 post f (by omega) hp))⟩
      · have hpr' : re_pr bd bv mo fo nN wn rt qu (i + 1) := by
          intro j p q hj hp64 ej h7 hq128 ht
          by_cases eq : j = i
          · subst eq
            rw [eb] at ej
            have ep : b = p / 8 := na_im ej (by omega) (by omega)
            omega
          · exact hpr j p q (by omega) hp64 ej h7 hq128 ht
        obtain ⟨qn', rt', qu', a1, a2, a3, a4⟩ := ih (i + 1) qn rt qu (by omega) (by omega) hq hpr'
        refine ⟨qn', rt', qu', a1, a2, a3, fun post f hf hp => ?_⟩
        obtain ⟨f, rfl⟩ := na_fu hf
        exact pk_le 16 i (fun h => absurd h (by omega)) (fun _ => pk_le qn i (fun h => absurd h (by omega)) (fun _ => ⟨hin, pk_le 8 b (fun _ => nm_r (nI_1 i) (a4 post f (by omega) hp)) (fun h => absurd h (by omega)) rfl ei⟩))
/-! X's start -/
theorem re_x2 : ∀ (k i : Nat) (rt : Nat → Int32), i + k = 16 → (∀ b, b < i → rt b = 0) → ∃ rt', (∀ b, b < 16 → rt' b = 0) ∧
    ∀ (post : SX → Prop) (f : Nat), k < f → wX_retainBlocks_2 post (nI e) 0 6 7 (nI mM) (nI mS) (nI mI) (nI mc) (nI sc) L (nI lc) qc cc 1 (nI 16) (na_v ar) (na_v bd) (na_v bv) (na_v mo) (na_v z) (na_v fo) fa fn (na_v od) po wn rt' qu ba pa mO mA st ct aO aA oC ou → wX_retainBlocks_2 post (nI e) 0 6 7 (nI mM) (nI mS) (nI mI) (nI mc) (nI sc) L (nI lc) qc cc f (nI i) (na_v ar) (na_v bd) (na_v bv) (na_v mo) (na_v z) (na_v fo) fa fn (na_v od) po wn rt qu ba pa mO mA st ct aO aA oC ou := by
  intro k
  induction k with
  | zero =>
    intro i rt hi h
    obtain rfl : i = 16 := by omega
    refine ⟨rt, fun j hj => h j (by omega), fun post f hf hp => ?_⟩
    obtain ⟨f, rfl⟩ := na_fu hf
    have hp1 := hp.1 (nI_le (a := 16) (b := 16) (by omega) (by decide))
    exact br_t (nI_le (a := 16) (b := 16) (by omega) (by decide)) hp1
  | succ k ih =>
    intro i rt hi h
    obtain ⟨rt', h1, h2⟩ := ih (i + 1) (upd rt i 0) (by omega) (fun j hj => by
      by_cases q : j = i
      · rw [q, pk_us]
      · rw [pk_un q]; exact h j (by omega))
    refine ⟨rt', h1, fun post f hf hp => ?_⟩
    obtain ⟨f, rfl⟩ := na_fu hf
    exact pk_le 16 i (fun h => absurd h (by omega)) (fun _ => ⟨vp_in_nI (by omega) (by decide), nm_r (e' := upd rt i 0) (by rw [na_b0]; exact na_uc (by omega)) (nm_r (nI_1 i) (h2 post f (by omega) hp))⟩)
theorem re_xa {s : Nat} (hF : fd_ok mM mS mI mc sc ar bd bv mo z y fo nN od fa fn) (hw : ∀ n, n < 8 → wn n = wi_wn bd bv od lc n) (he : e < 8) (hs : s < 128) (hws : wn e = nI s) :
    ∃ (qn' : Nat) (rt' qu' : Nat → Int32), (∀ b, b < 16 → (rt' b ≠ 0 ↔ re_R bd bv mo fo nN wn (s / 8) b)) ∧
      ∀ (post : SX → Prop), post (0, 6, 7, nI mM, nI mS, nI mI, nI mc, nI sc, L, nI lc, nI qn', cc, na_v ar, na_v bd, na_v bv, na_v mo, na_v z, na_v fo, fa, fn, na_v od, po, wn, rt', qu', ba, pa, mO, mA, st, ct, aO, aA, oC, ou) → wpX_retainBlocks post (0, 6, 7, nI mM, nI mS, nI mI, nI mc, nI sc, L, nI lc, qc, cc, na_v ar, na_v bd, na_v bv, na_v mo, na_v z, na_v fo, fa, fn, na_v od, po, wn, rt, qu, ba, pa, mO, mA, st, ct, aO, aA, oC, ou) (nI e) := by
  obtain ⟨rt0, z1, z2⟩ := re_x2 (mM := mM) (mS := mS) (mI := mI) (mc := mc) (sc := sc) (lc := lc) (ar := ar) (bd := bd) (bv := bv) (mo := mo) (z := z) (fo := fo) (od := od) (L := L) (qc := qc) (cc := cc) (fa := fa) (fn := fn) (po := po) (wn := wn) (qu := qu) (ba := ba) (pa := pa) (mO := mO) (mA := mA) (st := st) (ct := ct) (aO := aO) (aA := aA) (oC := oC) (ou := ou) (e := e) 16 0 rt (by omega) (fun b hb => absurd hb (by omega))
  have hq0 : re_q (re_R bd bv mo fo nN wn (s / 8)) 0 rt0 qu := ⟨(na_cn_0 16 (fun j hj => decide_eq_false (fun q => q (z1 j hj)))).symm, fun j hj => absurd hj (by omega), fun b hb h => absurd (z1 b hb) h, fun b hb h => absurd (z1 b hb) h⟩
  obtain ⟨qn1, rt1, qu1, b1, b2, b3, b4, b5, b6⟩ := re_xr (mM := mM) (mS := mS) (mI := mI) (mc := mc) (sc := sc) (lc := lc) (ar := ar) (bd := bd) (bv := bv) (mo := mo) (z := z) (fo := fo) (od := od) (L := L) (cc := cc) (fa := fa) (fn := fn) (po := po) (wn := wn) (ba := ba) (pa := pa) (mO := mO) (mA := mA) (st := st) (ct := ct) (aO := aO) (aA := aA) (oC := oC) (ou := ou) (b := s / 8) hq0 (by omega) re_R0
  obtain ⟨qn', rt', qu', a1, a2, a3, a4⟩ := re_xb (mM := mM) (mS := mS) (mI := mI) (mc := mc) (sc := sc) (lc := lc) (ar := ar) (bd := bd) (bv := bv) (mo := mo) (z := z) (fo := fo) (od := od) (L := L) (cc := cc) (fa := fa) (fn := fn) (po := po) (wn := wn) (ba := ba) (pa := pa) (mO := mO) (mA := mA) (st := st) (ct := ct) (aO := aO) (aA := aA) (oC := oC) (ou := ou) hF hw 16 0 qn1 rt1 qu1 (by omega) (by omega) b1 (fun j p q hj => absurd hj (by omega))
  refine ⟨qn', rt', qu', fun b hb => ⟨a1.2.2.2 b hb, re_Rc (a2 _ b2) a3⟩, fun post hp => ⟨17, z2 post 17 (by omega) (br_t (nI_le (a := 16) (b := 16) (by omega) (by decide)) ⟨vp_in_nI he (by decide), ?_⟩)⟩⟩
  rw [nI_clamp (by omega), hws, na_s3 (by omega)]
  exact b6 _ ⟨17, a4 post 17 (by omega) hp⟩
end
end
section
/-! the least name: pure -/
def ls_ok (P : Nat → Prop) (nm : Nat → Nat) (E0 : Prop) (e i : Nat) (r : Int32) : Prop :=
  (r = -1 ∧ ¬ E0 ∧ ∀ p, p < i → ¬ P p) ∨ (∃ n, r = nI n ∧ n < 8 ∧ ((E0 ∧ n = e) ∨ ∃ p, p < i ∧ P p ∧ nm p = n) ∧ (E0 → n ≤ e) ∧ ∀ p, p < i → P p → n ≤ nm p)
theorem ls_sk {P : Nat → Prop} {nm : Nat → Nat} {E0 : Prop} {e i : Nat} {r : Int32} (h : ls_ok P nm E0 e i r) (hn : ¬ P i) : ls_ok P nm E0 e (i + 1) r := by
  rcases h with ⟨a, b, c⟩ | ⟨n, a, b, c, d, g⟩
  · refine Or.inl ⟨a, b, fun p hp => ?_⟩
    by_cases q : p = i
    · rw [q]; exact hn
    · exact c p (by omega)
  · refine Or.inr ⟨n, a, b, ?_, d, fun p hp hP => ?_⟩
    · rcases c with c | ⟨p, c1, c2, c3⟩
      · exact Or.inl c
      · exact Or.inr ⟨p, by omega, c2, c3⟩
    · by_cases q : p = i
      · rw [q] at hP; exact absurd hP hn
      · exact g p (by omega) hP
/-- the least so far, and a new one -/
theorem ls_tk {P : Nat → Prop} {nm : Nat → Nat} {E0 : Prop} {e i : Nat} {r : Int32} (h : ls_ok P nm E0 e i r) (hP : P i) (h8 : nm i < 8) :
    (r < 0 ∧ ls_ok P nm E0 e (i + 1) (nI (nm i))) ∨ (¬ r < 0 ∧ r ≤ nI (nm i) ∧ ls_ok P nm E0 e (i + 1) r) ∨ (¬ r < 0 ∧ ¬ r ≤ nI (nm i) ∧ ls_ok P nm E0 e (i + 1) (nI (nm i))) := by
  rcases h with ⟨a, b, c⟩ | ⟨n, a, b, c, d, g⟩
  · refine Or.inl ⟨by rw [a]; exact na_m1lt, Or.inr ⟨nm i, rfl, h8, Or.inr ⟨i, by omega, hP, rfl⟩, fun q => absurd q b, fun p hp hPp => ?_⟩⟩
    by_cases q : p = i
    · rw [q]; omega
    · exact absurd hPp (c p (by omega))
  · have hr : ¬ r < 0 := by rw [a]; exact nI_pos (by omega)
    by_cases hle : n ≤ nm i
    · refine Or.inr (Or.inl ⟨hr, by rw [a]; exact nI_le hle (by omega), Or.inr ⟨n, a, b, ?_, d, fun p hp hPp => ?_⟩⟩)
      · rcases c with c | ⟨p, c1, c2, c3⟩
        · exact Or.inl c
        · exact Or.inr ⟨p, by omega, c2, c3⟩
      · by_cases q : p = i
        · rw [q]; exact hle
        · exact g p (by omega) hPp
    · refine Or.inr (Or.inr ⟨hr, by rw [a]; exact nI_ge (by omega) (by omega), Or.inr ⟨nm i, rfl, h8, Or.inr ⟨i, by omega, hP, rfl⟩, fun q => by have := d q; omega, fun p hp hPp => ?_⟩⟩)
      by_cases q : p = i
      · rw [q]; omega
      · have := g p (by omega) hPp; omega
section
variable {mM mS mI mc sc lc : Nat} {ar bd bv mo z y fo nN od : Nat → Nat} {L qc cc cl : Int32} {fa fn po wn rt qu ba pa mO mA st ct aO aA oC ou ly rY kd vl aV cY : Nat → Int32}
variable {e s : Nat}
theorem ls_x {P : Nat → Prop} {nm : Nat → Nat} {E0 : Prop} {e i : Nat} {r : Int32} (h : ls_ok P nm E0 e i r) (hP : P i) (h8 : nm i < 8) : ∃ r', ls_ok P nm E0 e (i + 1) r' ∧ ∀ post : Int32 → Prop, post r' → wpX_lesser post (0, 6, 7, nI mM, nI mS, nI mI, nI mc, nI sc, L, nI lc, qc, cc, na_v ar, na_v bd, na_v bv, na_v mo, na_v z, na_v fo, fa, fn, na_v od, po, wn, rt, qu, ba, pa, mO, mA, st, ct, aO, aA, oC, ou) r (nI (nm i)) := by
  rcases ls_tk h hP h8 with ⟨a, b⟩ | ⟨a, b, c⟩ | ⟨a, b, c⟩
  · exact ⟨_, b, fun post hp => br_t a hp⟩
  · exact ⟨_, c, fun post hp => br_f a (br_t b hp)⟩
  · exact ⟨_, c, fun post hp => br_f a (br_f b hp)⟩
/-! X's isLiveReloc -/
theorem re_xl {post : Int32 → Prop} {p : Nat} (hp : p < 64) (hF : fd_ok mM mS mI mc sc ar bd bv mo z y fo nN od fa fn) (h1 : rt (p / 8) ≠ 0 → 7 ≤ fo p → post 1) (h0 : ¬ (rt (p / 8) ≠ 0 ∧ 7 ≤ fo p) → post 0) : wpX_isLiveReloc post (0, 6, 7, nI mM, nI mS, nI mI, nI mc, nI sc, L, nI lc, qc, cc, na_v ar, na_v bd, na_v bv, na_v mo, na_v z, na_v fo, fa, fn, na_v od, po, wn, rt, qu, ba, pa, mO, mA, st, ct, aO, aA, oC, ou) (nI p) := by
  obtain ⟨g1, g2, g3, g4, g5, g6, g7, g8, g9, g10, g11, g12, g13, g14, g15, g16, g17⟩ := hF
  have hz8 := g9 (p / 8)
  have hi16 : vp_in (nI (p / 8)) 16 := vp_in_nI (by omega) (by decide)
  refine nm_r (na_s3 (by omega)) ⟨hi16, br_c (fun h => h0 (fun q => q.1 ?_)) (fun h => ⟨hi16, ?_⟩)⟩
  · rw [nI_clamp (by omega)] at h; exact h
  rw [nI_clamp (by omega)] at h
  refine pk_le (z (p / 8)) (p % 8) (fun hz => h0 (fun q => ?_)) (fun hz => ⟨vp_in_nI hp (by decide), br_c (fun hf => h0 (fun q => ?_)) (fun hf => h1 h ?_)⟩) (na_r (by omega)) (na_n7 (by omega))
  · have := g13 p hp hz; omega
  · rw [nI_clamp (by omega), g16 p hp hz, if_neg (by omega)] at hf
    have := g14 p
    exact nI_pos (by omega) hf
  · rw [nI_clamp (by omega), g16 p hp hz] at hf
    by_cases q : fo p < 7
    · rw [if_pos q] at hf; exact absurd na_m1lt hf
    · omega
/-! undefined names -/
def un_P (R : Nat → Prop) (bd bv mo fo nN : Nat → Nat) (wn : Nat → Int32) (p : Nat) : Prop := R (p / 8) ∧ 7 ≤ fo p ∧ bd (8 * mo (p / 8) + nN p) ≠ 2 ∧ re_t bd bv mo nN wn p = -1
theorem un_xu {post : Int32 → Prop} {p : Nat} (hp : p < 64) (hF : fd_ok mM mS mI mc sc ar bd bv mo z y fo nN od fa fn) (h7 : 7 ≤ fo p)
    (h1 : bd (8 * mo (p / 8) + nN p) ≠ 2 → re_t bd bv mo nN wn p = -1 → post 1) (h0 : ¬ (bd (8 * mo (p / 8) + nN p) ≠ 2 ∧ re_t bd bv mo nN wn p = -1) → post 0) : wpX_isUndefined post (0, 6, 7, nI mM, nI mS, nI mI, nI mc, nI sc, L, nI lc, qc, cc, na_v ar, na_v bd, na_v bv, na_v mo, na_v z, na_v fo, fa, fn, na_v od, po, wn, rt, qu, ba, pa, mO, mA, st, ct, aO, aA, oC, ou) (nI p) := by
  have hF' := hF
  obtain ⟨g1, g2, g3, g4, g5, g6, g7, g8, g9, g10, g11, g12, g13, g14, g15, g16, g17⟩ := hF
  have hz : p % 8 < z (p / 8) := Nat.lt_of_not_le (fun q => by have := g13 p hp q; omega)
  have efn := g16 p hp hz
  rw [if_neg (by omega)] at efn
  have hm8 := g7 (p / 8)
  have hn8 := g14 p
  have hb := g3 (8 * mo (p / 8) + nN p)
  refine ⟨na_in (na_s3 (by omega)) (by omega) (by decide), vp_in_nI hp (by decide), nm_r (e' := nI (8 * mo (p / 8) + nN p)) ?_ ⟨vp_in_nI (by omega) (by decide), pk_eq (bd (8 * mo (p / 8) + nN p)) 2 (fun h => h0 (fun q => q.1 h)) (fun h => re_xc hp hF' h7 (br_c (fun ht => h1 h ht) (fun ht => h0 (fun q => ht q.2)))) (na_r (by omega))⟩⟩
  rw [na_s3 (by omega), na_r (by omega), nI_clamp (by omega), efn, na_8]
theorem un_x (hF : fd_ok mM mS mI mc sc ar bd bv mo z y fo nN od fa fn) {R : Nat → Prop} (hr : ∀ b, b < 16 → (rt b ≠ 0 ↔ R b)) :
    ∀ (k i : Nat) (r : Int32), i + k = 64 → ls_ok (un_P R bd bv mo fo nN wn) nN False 0 i r → ∃ r', ls_ok (un_P R bd bv mo fo nN wn) nN False 0 64 r' ∧ ∀ (post : Int32 → Prop) (f : Nat), k < f → post r' → wX_leastUndefined_4 post 0 6 7 (nI mM) (nI mS) (nI mI) (nI mc) (nI sc) L (nI lc) qc cc (na_v ar) (na_v bd) (na_v bv) (na_v mo) (na_v z) (na_v fo) fa fn (na_v od) po wn rt qu ba pa mO mA st ct aO aA oC ou f r (nI i) := by
  intro k
  induction k with
  | zero =>
    intro i r hi h
    obtain rfl : i = 64 := by omega
    refine ⟨r, h, fun post f hf hp => ?_⟩
    obtain ⟨f, rfl⟩ := na_fu hf
    exact pk_le 64 64 (fun _ => hp) (fun h => absurd h (by omega))
  | succ k ih =>
    intro i r hi h
    have hn8 := hF.2.2.2.2.2.2.2.2.2.2.2.2.2.1 i
    by_cases hP : un_P R bd bv mo fo nN wn i
    · obtain ⟨r1, a1, a2⟩ := ls_x (mM := mM) (mS := mS) (mI := mI) (mc := mc) (sc := sc) (lc := lc) (ar := ar) (bd := bd) (bv := bv) (mo := mo) (z := z) (fo := fo) (od := od) (L := L) (qc := qc) (cc := cc) (fa := fa) (fn := fn) (po := po) (wn := wn) (rt := rt) (qu := qu) (ba := ba) (pa := pa) (mO := mO) (mA := mA) (st := st) (ct := ct) (aO := aO) (aA := aA) (oC := oC) (ou := ou) h hP hn8
      obtain ⟨r', b1, b2⟩ := ih (i + 1) r1 (by omega) a1
      refine ⟨r', b1, fun post f hf hp => ?_⟩
      obtain ⟨f, rfl⟩ := na_fu hf
      obtain ⟨p1, p2, p3, p4⟩ := hP
      refine pk_le 64 i (fun h => absurd h (by omega)) (fun _ => re_xl (by omega) hF (fun _ _ => br_f (by decide) (un_xu (by omega) hF p2 (fun _ _ => br_f (by decide) ⟨vp_in_nI (by omega) (by decide), ?_⟩) (fun q => absurd ⟨p3, p4⟩ q))) (fun q => absurd ⟨(hr _ (by omega)).mpr p1, p2⟩ q))
      have efn := hF.2.2.2.2.2.2.2.2.2.2.2.2.2.2.2.1 i (by omega) (Nat.lt_of_not_le (fun q => by have := hF.2.2.2.2.2.2.2.2.2.2.2.2.1 i (by omega) q; omega))
      rw [if_neg (by omega)] at efn
      rw [nI_clamp (by omega), efn]
      exact a2 _ (nm_r (nI_1 i) (b2 post f (by omega) hp))
    · obtain ⟨r', b1, b2⟩ := ih (i + 1) r (by omega) (ls_sk h hP)
      refine ⟨r', b1, fun post f hf hp => ?_⟩
      obtain ⟨f, rfl⟩ := na_fu hf
      have K := b2 post f (by omega) hp
      refine pk_le 64 i (fun h => absurd h (by omega)) (fun _ => re_xl (by omega) hF (fun q1 q2 => br_f (by decide) (un_xu (by omega) hF q2 (fun q3 q4 => absurd ⟨(hr _ (by omega)).mp q1, q2, q3, q4⟩ hP) (fun _ => br_t rfl (nm_r (nI_1 i) K)))) (fun _ => br_t rfl (nm_r (nI_1 i) K)))
/-! Y: undefined names -/
theorem re_ym2 {post : Int32 → Prop} {p n : Nat} (hp : p < 64) (hF : fd_ok mM mS mI mc sc ar bd bv mo z y fo nN od fa fn) (hl : lc ≤ 8) (hd : wi_nd bd od lc) (hw : ∀ n, n < 8 → wn n = wi_wn bd bv od lc n) (hn : nN p = n)
    (h : post (re_t bd bv mo nN wn p)) : wpY_meaning post (nI mM, nI mS, nI mI, nI mc, nI sc, L, nI lc, cl, na_v ar, na_v mo, na_v y, na_v fo, na_v nN, fa, na_v bd, na_v bv, na_v od, ly, rY, kd, vl, ou, st, aO, aV, cY, oC) (na_v mo (nI p / 8).toNatClampNeg) (nI n) := by
  have h14 := hF.2.2.2.2.2.2.2.2.2.2.2.2.2.1 p
  have := re_ym (mM := mM) (mS := mS) (mI := mI) (mc := mc) (sc := sc) (lc := lc) (ar := ar) (bd := bd) (bv := bv) (mo := mo) (y := y) (fo := fo) (nN := nN) (od := od) (L := L) (cl := cl) (fa := fa) (oC := oC) (ou := ou) (ly := ly) (rY := rY) (kd := kd) (vl := vl) (st := st) (aO := aO) (aV := aV) (cY := cY) hp hF hl hd hw h
  rw [na_r (f := nN) (by omega), hn] at this
  exact this
theorem un_ys {post : Int32 → SY → Prop} {J224 : Int32 → Prop} {p n f : Nat} (hp : p < 64) (hn : n < 8) (hF : fd_ok mM mS mI mc sc ar bd bv mo z y fo nN od fa fn) (hl : lc ≤ 8) (hd : wi_nd bd od lc) (hw : ∀ n, n < 8 → wn n = wi_wn bd bv od lc n)
    {R : Nat → Prop} (hr : ∀ b, b < 16 → (rY b ≠ 0 ↔ R b)) (h1 : un_P R bd bv mo fo nN wn p → nN p = n → post (48 + nI n) (nI mM, nI mS, nI mI, nI mc, nI sc, L, nI lc, cl, na_v ar, na_v mo, na_v y, na_v fo, na_v nN, fa, na_v bd, na_v bv, na_v od, ly, rY, kd, vl, ou, st, aO, aV, cY, oC)) (h0 : ¬ (un_P R bd bv mo fo nN wn p ∧ nN p = n) → wY_link_233 post J224 (nI e) (nI s) (nI n) (nI mM) (nI mS) (nI mI) (nI mc) (nI sc) L (nI lc) cl (na_v ar) (na_v mo) (na_v y) (na_v fo) (na_v nN) fa (na_v bd) (na_v bv) (na_v od) ly rY kd vl ou st aO aV cY oC f (nI (p + 1))) :
    wY_link_233 post J224 (nI e) (nI s) (nI n) (nI mM) (nI mS) (nI mI) (nI mc) (nI sc) L (nI lc) cl (na_v ar) (na_v mo) (na_v y) (na_v fo) (na_v nN) fa (na_v bd) (na_v bv) (na_v od) ly rY kd vl ou st aO aV cY oC (f + 1) (nI p) := by
  have hop := hF.2.2.2.2.2.2.2.2.2.2.2.1 p
  have hn8 := hF.2.2.2.2.2.2.2.2.2.2.2.2.2.1 p
  have hm8 := hF.2.2.2.2.2.2.1 (p / 8)
  have hi8 : vp_in (nI p / 8) 8 := na_in (na_d8 (by omega)) (by omega) (by decide)
  refine pk_le 64 p (fun h => absurd h (by omega)) (fun _ => re_yl hp hop (fun q1 q2 => br_f (by decide) ⟨vp_in_nI hp (by decide), pk_eq (nN p) n (fun en => ⟨by decide, hi8, re_ym2 hp hF hl hd hw en (br_c (fun ht => ⟨by decide, hi8, ?_⟩) (fun ht => nm_r (nI_1 p) (h0 (fun q => ht q.1.2.2.2))))⟩) (fun en => nm_r (nI_1 p) (h0 (fun q => en q.2))) (na_r (by omega))⟩) (fun q => br_t rfl (nm_r (nI_1 p) (h0 (fun w => q ⟨(hr _ (by omega)).mpr w.1.1, w.1.2.1⟩)))))
  have e8 : 8 * na_v mo (nI p / 8).toNatClampNeg + nI n = nI (8 * mo (p / 8) + nN p) := by rw [na_d8 (by omega), na_r (by omega), na_8, en]
  have hb := hF.2.2.1 (8 * mo (p / 8) + nN p)
  exact ⟨na_in e8 (by omega) (by decide), pk_eq (bd (8 * mo (p / 8) + nN p)) 2 (fun hb2 => nm_r (nI_1 p) (h0 (fun q => q.1.2.2.1 hb2))) (fun hb2 => h1 ⟨(hr _ (by omega)).mp q1, q2, hb2, ht⟩ en) (by rw [e8]; exact na_r (by omega))⟩
theorem un_yp {post : Int32 → SY → Prop} {J224 : Int32 → Prop} {n : Nat} (hn : n < 8) (hF : fd_ok mM mS mI mc sc ar bd bv mo z y fo nN od fa fn) (hl : lc ≤ 8) (hd : wi_nd bd od lc) (hw : ∀ n, n < 8 → wn n = wi_wn bd bv od lc n)
    {R : Nat → Prop} (hr : ∀ b, b < 16 → (rY b ≠ 0 ↔ R b)) (hJ : J224 (nI (n + 1))) :
    ∀ k p f, p + k = 64 → k < f → (∀ p', p ≤ p' → p' < 64 → un_P R bd bv mo fo nN wn p' → nN p' ≠ n) → wY_link_233 post J224 (nI e) (nI s) (nI n) (nI mM) (nI mS) (nI mI) (nI mc) (nI sc) L (nI lc) cl (na_v ar) (na_v mo) (na_v y) (na_v fo) (na_v nN) fa (na_v bd) (na_v bv) (na_v od) ly rY kd vl ou st aO aV cY oC f (nI p) := by
  intro k
  induction k with
  | zero =>
    intro p f hp hf _
    obtain ⟨f, rfl⟩ := na_fu hf
    exact pk_le 64 p (fun _ => nm_r (nI_1 n) hJ) (fun h => absurd h (by omega))
  | succ k ih =>
    intro p f hp hf h
    obtain ⟨f, rfl⟩ := na_fu hf
    exact un_ys (by omega) hn hF hl hd hw hr (fun a b => absurd b (h p (by omega) (by omega) a)) (fun _ => ih (p + 1) f (by omega) (by omega) (fun p' a b => h p' (by omega) b))
theorem un_yh {post : Int32 → SY → Prop} {J224 : Int32 → Prop} {n : Nat} (hn : n < 8) (hF : fd_ok mM mS mI mc sc ar bd bv mo z y fo nN od fa fn) (hl : lc ≤ 8) (hd : wi_nd bd od lc) (hw : ∀ n, n < 8 → wn n = wi_wn bd bv od lc n)
    {R : Nat → Prop} (hr : ∀ b, b < 16 → (rY b ≠ 0 ↔ R b)) (hJ : post (48 + nI n) (nI mM, nI mS, nI mI, nI mc, nI sc, L, nI lc, cl, na_v ar, na_v mo, na_v y, na_v fo, na_v nN, fa, na_v bd, na_v bv, na_v od, ly, rY, kd, vl, ou, st, aO, aV, cY, oC)) :
    ∀ k p f, p + k = 64 → k < f → (∃ p', p ≤ p' ∧ p' < 64 ∧ un_P R bd bv mo fo nN wn p' ∧ nN p' = n) → wY_link_233 post J224 (nI e) (nI s) (nI n) (nI mM) (nI mS) (nI mI) (nI mc) (nI sc) L (nI lc) cl (na_v ar) (na_v mo) (na_v y) (na_v fo) (na_v nN) fa (na_v bd) (na_v bv) (na_v od) ly rY kd vl ou st aO aV cY oC f (nI p) := by
  intro k
  induction k with
  | zero =>
    intro p f hp hf h
    obtain ⟨p', a, b, _⟩ := h
    omega
  | succ k ih =>
    intro p f hp hf h
    obtain ⟨f, rfl⟩ := na_fu hf
    refine un_ys (by omega) hn hF hl hd hw hr (fun a b => hJ) (fun q => ih (p + 1) f (by omega) (by omega) ?_)
    obtain ⟨p', a, b, c, d⟩ := h
    refine ⟨p', ?_, b, c, d⟩
    by_cases e2 : p' = p
    · subst e2; exact absurd ⟨c, d⟩ q
    · omega
theorem un_y {post : Int32 → SY → Prop} {r : Int32} (hF : fd_ok mM mS mI mc sc ar bd bv mo z y fo nN od fa fn) (hl : lc ≤ 8) (hd : wi_nd bd od lc) (hw : ∀ n, n < 8 → wn n = wi_wn bd bv od lc n)
    {R : Nat → Prop} (hr : ∀ b, b < 16 → (rY b ≠ 0 ↔ R b)) (hls : ls_ok (un_P R bd bv mo fo nN wn) nN False 0 64 r) (h0 : r = -1 → ∃ n322, wY_link_322 post (nI e) (nI s) (nI mM) (nI mS) (nI mI) (nI mc) (nI sc) L (nI lc) cl (na_v ar) (na_v mo) (na_v y) (na_v fo) (na_v nN) fa (na_v bd) (na_v bv) (na_v od) ly rY kd vl ou st aO aV cY oC n322 0) (h1 : ∀ n, n < 8 → r = nI n → post (48 + nI n) (nI mM, nI mS, nI mI, nI mc, nI sc, L, nI lc, cl, na_v ar, na_v mo, na_v y, na_v fo, na_v nN, fa, na_v bd, na_v bv, na_v od, ly, rY, kd, vl, ou, st, aO, aV, cY, oC)) :
    ∀ k n, n + k = 8 → (∀ m, r = nI m → m < 8 → n ≤ m) → wY_link_224 post (nI e) (nI s) (nI mM) (nI mS) (nI mI) (nI mc) (nI sc) L (nI lc) cl (na_v ar) (na_v mo) (na_v y) (na_v fo) (na_v nN) fa (na_v bd) (na_v bv) (na_v od) ly rY kd vl ou st aO aV cY oC (k + 1) (nI n) := by
  intro k
  induction k with
  | zero =>
    intro n hn hm
    refine pk_le 8 n (fun _ => h0 ?_) (fun h => absurd h (by omega))
    rcases hls with ⟨a, _⟩ | ⟨m, a, b, _⟩
    · exact a
    · have := hm m a b; omega
  | succ k ih =>
    intro n hn hm
    refine pk_le 8 n (fun h => absurd h (by omega)) (fun _ => ⟨65, ?_⟩)
    rcases hls with ⟨a, _, c⟩ | ⟨m, a, b, c, _, g⟩
    · exact un_yp (by omega) hF hl hd hw hr (ih (n + 1) (by omega) (fun m q hm8 => absurd (a.symm.trans q).symm (na_ne1 (by omega)))) 64 0 65 (by omega) (by omega) (fun p' _ hp' hP => absurd hP (c p' hp'))
    · have hnm := hm m a b
      by_cases en : n = m
      · subst en
        rcases c with c | ⟨p, c1, c2, c3⟩
        · exact absurd c.1 (fun q => q)
        · exact un_yh (by omega) hF hl hd hw hr (h1 n b a) 64 0 65 (by omega) (by omega) ⟨p, by omega, c1, c2, c3⟩
      · refine un_yp (by omega) hF hl hd hw hr (ih (n + 1) (by omega) (fun m' q hm8 => ?_)) 64 0 65 (by omega) (by omega) (fun p' _ hp' hP => by have := g p' hp' hP; omega)
        have := na_im (a.symm.trans q) (by omega) (by omega)
        omega
end
end
section
/-! targets out of range -/
def rn_i (z : Nat → Nat) (q : Nat) (a : Int32) : Prop := 0 ≤ ((q % 8 : Nat) : Int) + a.toInt ∧ ((q % 8 : Nat) : Int) + a.toInt < z (q / 8)
def rn_b (bd bv mo z nN : Nat → Nat) (wn fa : Nat → Int32) (p : Nat) : Prop := ∃ q, q < 128 ∧ re_t bd bv mo nN wn p = nI q ∧ ¬ rn_i z q (fa p)
def rn_P (R : Nat → Prop) (bd bv mo z fo nN : Nat → Nat) (wn fa : Nat → Int32) (p : Nat) : Prop := R (p / 8) ∧ 7 ≤ fo p ∧ rn_b bd bv mo z nN wn fa p
section
variable {mM mS mI mc sc lc : Nat} {ar bd bv mo z y fo nN od : Nat → Nat} {L qc cc cl : Int32} {fa fn po wn rt qu ba pa mO mA st ct aO aA oC ou ly rY kd vl aV cY : Nat → Int32}
variable {e s : Nat}
theorem rn_xm {post : Int32 → Prop} {p : Nat} (hp : p < 64) (hF : fd_ok mM mS mI mc sc ar bd bv mo z y fo nN od fa fn) (hw : ∀ n, n < 8 → wn n = wi_wn bd bv od lc n) (h7 : 7 ≤ fo p)
    (h1 : rn_b bd bv mo z nN wn fa p → post 1) (h0 : ¬ rn_b bd bv mo z nN wn fa p → post 0) : wpX_missesBlock post (0, 6, 7, nI mM, nI mS, nI mI, nI mc, nI sc, L, nI lc, qc, cc, na_v ar, na_v bd, na_v bv, na_v mo, na_v z, na_v fo, fa, fn, na_v od, po, wn, rt, qu, ba, pa, mO, mA, st, ct, aO, aA, oC, ou) (nI p) := by
  unfold wpX_missesBlock
  have ha := hF.2.2.2.2.2.2.2.2.2.2.2.2.2.2.1 p h7
  refine re_xc hp hF h7 ?_
  rcases re_tc (lc := lc) hF hw p with ht | ⟨q, hq, ht⟩
  · rw [ht]
    refine br_t rfl (h0 (fun ⟨q, hq, e2, _⟩ => ?_))
    rw [ht] at e2
    exact na_ne1 (by omega) e2.symm
  · rw [ht]
    refine br_f (na_ne1 (by omega)) ⟨vp_in_nI hp (by decide), ?_⟩
    rw [nI_clamp (by omega)]
    refine ad_bk hq hF.2.2.2.2.2.2.2.2.1 (by omega) (fun h => br_f (by decide) (h0 (fun ⟨q', hq', e2, e3⟩ => ?_))) (fun h => br_t rfl (h1 ⟨q, hq, ht, h⟩))
    obtain rfl : q = q' := na_im (ht.symm.trans e2) (by omega) (by omega)
    exact e3 h
theorem rn_xl (hF : fd_ok mM mS mI mc sc ar bd bv mo z y fo nN od fa fn) (hw : ∀ n, n < 8 → wn n = wi_wn bd bv od lc n) {R E0 : _} (hr : ∀ b, b < 16 → (rt b ≠ 0 ↔ R b)) :
    ∀ (k i : Nat) (r : Int32), i + k = 64 → ls_ok (rn_P R bd bv mo z fo nN wn fa) nN E0 e i r → ∃ r', ls_ok (rn_P R bd bv mo z fo nN wn fa) nN E0 e 64 r' ∧ ∀ (post : Int32 → Prop) (f : Nat), k < f → post r' → wX_leastOutOfRange_22 post 0 6 7 (nI mM) (nI mS) (nI mI) (nI mc) (nI sc) L (nI lc) qc cc (na_v ar) (na_v bd) (na_v bv) (na_v mo) (na_v z) (na_v fo) fa fn (na_v od) po wn rt qu ba pa mO mA st ct aO aA oC ou f r (nI i) := by
  intro k
  induction k with
  | zero =>
    intro i r hi h
    obtain rfl : i = 64 := by omega
    refine ⟨r, h, fun post f hf hp => ?_⟩
    obtain ⟨f, rfl⟩ := na_fu hf
    exact pk_le 64 64 (fun _ => hp) (fun h => absurd h (by omega))
  | succ k ih =>
    intro i r hi h
    have hn8 := hF.2.2.2.2.2.2.2.2.2.2.2.2.2.1 i
    by_cases hP : rn_P R bd bv mo z fo nN wn fa i
    · obtain ⟨r1, a1, a2⟩ := ls_x (mM := mM) (mS := mS) (mI := mI) (mc := mc) (sc := sc) (lc := lc) (ar := ar) (bd := bd) (bv := bv) (mo := mo) (z := z) (fo := fo) (od := od) (L := L) (qc := qc) (cc := cc) (fa := fa) (fn := fn) (po := po) (wn := wn) (rt := rt) (qu := qu) (ba := ba) (pa := pa) (mO := mO) (mA := mA) (st := st) (ct := ct) (aO := aO) (aA := aA) (oC := oC) (ou := ou) h hP hn8
      obtain ⟨r', b1, b2⟩ := ih (i + 1) r1 (by omega) a1
      refine ⟨r', b1, fun post f hf hp => ?_⟩
      obtain ⟨f, rfl⟩ := na_fu hf
      obtain ⟨p1, p2, p3⟩ := hP
      refine pk_le 64 i (fun h => absurd h (by omega)) (fun _ => re_xl (by omega) hF (fun _ _ => br_f (by decide) (rn_xm (by omega) hF hw p2 (fun _ => br_f (by decide) ⟨vp_in_nI (by omega) (by decide), ?_⟩) (fun q => absurd p3 q))) (fun q => absurd ⟨(hr _ (by omega)).mpr p1, p2⟩ q))
      have efn := hF.2.2.2.2.2.2.2.2.2.2.2.2.2.2.2.1 i (by omega) (Nat.lt_of_not_le (fun q => by have := hF.2.2.2.2.2.2.2.2.2.2.2.2.1 i (by omega) q; omega))
      rw [if_neg (by omega)] at efn
      rw [nI_clamp (by omega), efn]
      exact a2 _ (nm_r (nI_1 i) (b2 post f (by omega) hp))
    · obtain ⟨r', b1, b2⟩ := ih (i + 1) r (by omega) (ls_sk h hP)
      refine ⟨r', b1, fun post f hf hp => ?_⟩
      obtain ⟨f, rfl⟩ := na_fu hf
      have K := b2 post f (by omega) hp
      refine pk_le 64 i (fun h => absurd h (by omega)) (fun _ => re_xl (by omega) hF (fun q1 q2 => br_f (by decide) (rn_xm (by omega) hF hw q2 (fun q3 => absurd ⟨(hr _ (by omega)).mp q1, q2, q3⟩ hP) (fun _ => br_t rfl (nm_r (nI_1 i) K)))) (fun _ => br_t rfl (nm_r (nI_1 i) K)))
theorem rn_x (hF : fd_ok mM mS mI mc sc ar bd bv mo z y fo nN od fa fn) (hw : ∀ n, n < 8 → wn n = wi_wn bd bv od lc n) {R : _} (hr : ∀ b, b < 16 → (rt b ≠ 0 ↔ R b)) (he : e < 8) (hs : s < 128) (hws : wn e = nI s) :
    ∃ r', ls_ok (rn_P R bd bv mo z fo nN wn fa) nN (¬ s % 8 < z (s / 8)) e 64 r' ∧ ∀ (post : Int32 → Prop), post r' → wpX_leastOutOfRange post (0, 6, 7, nI mM, nI mS, nI mI, nI mc, nI sc, L, nI lc, qc, cc, na_v ar, na_v bd, na_v bv, na_v mo, na_v z, na_v fo, fa, fn, na_v od, po, wn, rt, qu, ba, pa, mO, mA, st, ct, aO, aA, oC, ou) (nI e) := by
  have e0 : (0 : Int32).toInt = 0 := by decide
  by_cases h : s % 8 < z (s / 8)
  · obtain ⟨r', a1, a2⟩ := rn_xl (mM := mM) (mS := mS) (mI := mI) (mc := mc) (sc := sc) (lc := lc) (ar := ar) (bd := bd) (bv := bv) (mo := mo) (z := z) (fo := fo) (od := od) (L := L) (qc := qc) (cc := cc) (fa := fa) (fn := fn) (po := po) (wn := wn) (rt := rt) (qu := qu) (ba := ba) (pa := pa) (mO := mO) (mA := mA) (st := st) (ct := ct) (aO := aO) (aA := aA) (oC := oC) (ou := ou) (E0 := ¬ s % 8 < z (s / 8)) (e := e) hF hw hr 64 0 (-1) (by omega) (Or.inl ⟨rfl, fun q => q h, fun p hp => absurd hp (by omega)⟩)
    refine ⟨r', a1, fun post hp => ⟨vp_in_nI he (by decide), ?_⟩⟩
    rw [nI_clamp (by omega), hws]
    exact ad_bk hs hF.2.2.2.2.2.2.2.2.1 (by rw [e0]; decide) (fun _ => br_f (by decide) ⟨65, a2 post 65 (by omega) hp⟩) (fun q => absurd ⟨by omega, by omega⟩ q)
  · obtain ⟨r', a1, a2⟩ := rn_xl (mM := mM) (mS := mS) (mI := mI) (mc := mc) (sc := sc) (lc := lc) (ar := ar) (bd := bd) (bv := bv) (mo := mo) (z := z) (fo := fo) (od := od) (L := L) (qc := qc) (cc := cc) (fa := fa) (fn := fn) (po := po) (wn := wn) (rt := rt) (qu := qu) (ba := ba) (pa := pa) (mO := mO) (mA := mA) (st := st) (ct := ct) (aO := aO) (aA := aA) (oC := oC) (ou := ou) (E0 := ¬ s % 8 < z (s / 8)) (e := e) hF hw hr 64 0 (nI e) (by omega) (Or.inr ⟨e, rfl, he, Or.inl ⟨h, rfl⟩, fun _ => Nat.le_refl _, fun p hp => absurd hp (by omega)⟩)
    refine ⟨r', a1, fun post hp => ⟨vp_in_nI he (by decide), ?_⟩⟩
    rw [nI_clamp (by omega), hws]
    exact ad_bk hs hF.2.2.2.2.2.2.2.2.1 (by rw [e0]; decide) (fun q => absurd q.2 (by rw [e0]; omega)) (fun _ => br_t rfl ⟨65, a2 post 65 (by omega) hp⟩)
/-! Y -/
theorem rn_ys {post : Int32 → SY → Prop} {J322 : Int32 → Prop} {p n f : Nat} (hp : p < 64) (hn : n < 8) (hF : fd_ok mM mS mI mc sc ar bd bv mo z y fo nN od fa fn) (hl : lc ≤ 8) (hd : wi_nd bd od lc) (hw : ∀ n, n < 8 → wn n = wi_wn bd bv od lc n) (hzc : ∀ n, n < 8 → z (8 + n) = wi_cm bd bv od n lc)
    {R : Nat → Prop} (hr : ∀ b, b < 16 → (rY b ≠ 0 ↔ R b)) (h1 : rn_P R bd bv mo z fo nN wn fa p → nN p = n → post (64 + nI n) (nI mM, nI mS, nI mI, nI mc, nI sc, L, nI lc, cl, na_v ar, na_v mo, na_v y, na_v fo, na_v nN, fa, na_v bd, na_v bv, na_v od, ly, rY, kd, vl, ou, st, aO, aV, cY, oC)) (h0 : ¬ (rn_P R bd bv mo z fo nN wn fa p ∧ nN p = n) → wY_link_356 post J322 (nI e) (nI s) (nI n) (nI mM) (nI mS) (nI mI) (nI mc) (nI sc) L (nI lc) cl (na_v ar) (na_v mo) (na_v y) (na_v fo) (na_v nN) fa (na_v bd) (na_v bv) (na_v od) ly rY kd vl ou st aO aV cY oC f (nI (p + 1))) :
    wY_link_356 post J322 (nI e) (nI s) (nI n) (nI mM) (nI mS) (nI mI) (nI mc) (nI sc) L (nI lc) cl (na_v ar) (na_v mo) (na_v y) (na_v fo) (na_v nN) fa (na_v bd) (na_v bv) (na_v od) ly rY kd vl ou st aO aV cY oC (f + 1) (nI p) := by
  have hop := hF.2.2.2.2.2.2.2.2.2.2.2.1 p
  have hn8 := hF.2.2.2.2.2.2.2.2.2.2.2.2.2.1 p
  have hi8 : vp_in (nI p / 8) 8 := na_in (na_d8 (by omega)) (by omega) (by decide)
  have hz9 := hF.2.2.2.2.2.2.2.2.1
  have e0 : (0 : Int32).toInt = 0 := by decide
  refine pk_le 64 p (fun h => absurd h (by omega)) (fun _ => re_yl hp hop (fun q1 q2 => br_f (by decide) ⟨vp_in_nI hp (by decide), pk_eq (nN p) n (fun en => ⟨by decide, hi8, re_ym2 hp hF hl hd hw en ?_⟩) (fun en => br_t rfl (nm_r (nI_1 p) (h0 (fun q => en q.2)))) (na_r (by omega))⟩) (fun q => br_t rfl (br_t rfl (nm_r (nI_1 p) (h0 (fun w => q ⟨(hr _ (by omega)).mpr w.1.1, w.1.2.1⟩))))))
  have ha := hF.2.2.2.2.2.2.2.2.2.2.2.2.2.2.1 p q2
  rcases re_tc (lc := lc) hF hw p with ht | ⟨q, hq, ht⟩
  · rw [ht]
    refine br_t rfl (nm_r (nI_1 p) (h0 (fun w => ?_)))
    obtain ⟨q, hq, e2, _⟩ := w.1.2.2
    rw [ht] at e2
    exact na_ne1 (by omega) e2.symm
  · rw [ht]
    have hz8 := hz9 (q / 8)
    have ef : (nI q - nI q / 8 * 8 + fa (nI p).toNatClampNeg).toInt = ((q % 8 : Nat) : Int) + (fa p).toInt := by
      rw [nI_clamp (by omega), na_r8 (by omega), Jvm.Kit.i32_add (by rw [nI_toInt (by omega)]; omega) (by rw [nI_toInt (by omega)]; omega), nI_toInt (by omega)]
    have K1 : ¬ rn_i z q (fa p) → post (64 + nI n) (nI mM, nI mS, nI mI, nI mc, nI sc, L, nI lc, cl, na_v ar, na_v mo, na_v y, na_v fo, na_v nN, fa, na_v bd, na_v bv, na_v od, ly, rY, kd, vl, ou, st, aO, aV, cY, oC) := fun h => h1 ⟨(hr _ (by omega)).mp q1, q2, q, hq, ht, h⟩ en
    have K0 : rn_i z q (fa p) → wY_link_356 post J322 (nI e) (nI s) (nI n) (nI mM) (nI mS) (nI mI) (nI mc) (nI sc) L (nI lc) cl (na_v ar) (na_v mo) (na_v y) (na_v fo) (na_v nN) fa (na_v bd) (na_v bv) (na_v od) ly rY kd vl ou st aO aV cY oC f (nI (p + 1)) := fun h => h0 (fun w => by
      obtain ⟨q', hq', e2, e3⟩ := w.1.2.2
      obtain rfl : q = q' := na_im (ht.symm.trans e2) (by omega) (by omega)
      exact e3 h)
    refine br_f (na_ne1 (by omega)) ⟨by decide, vp_in_nI hp (by decide), br_c (fun h => K1 (fun w => ?_)) (fun h => ⟨by decide, vp_in_nI hp (by decide), by decide, ?_⟩)⟩
    · rw [Int32.lt_iff_toInt_lt, ef, e0] at h
      have := w.1; omega
    · rw [na_d8 (p := q) (by omega)]
      refine wi_ys (by omega) hF hl hzc (br_c (fun g => nm_r (nI_1 p) (K0 ⟨?_, ?_⟩)) (fun g => K1 (fun w => g ?_)))
      · rw [Int32.lt_iff_toInt_lt, ef, e0] at h; omega
      · rw [← na_d8 (p := q) (by omega), Int32.lt_iff_toInt_lt, ef, nI_toInt (by omega)] at g; exact g
      · rw [← na_d8 (p := q) (by omega), Int32.lt_iff_toInt_lt, ef, nI_toInt (by omega)]; exact w.2
theorem rn_yp {post : Int32 → SY → Prop} {J322 : Int32 → Prop} {n : Nat} (hn : n < 8) (hF : fd_ok mM mS mI mc sc ar bd bv mo z y fo nN od fa fn) (hl : lc ≤ 8) (hd : wi_nd bd od lc) (hw : ∀ n, n < 8 → wn n = wi_wn bd bv od lc n) (hzc : ∀ n, n < 8 → z (8 + n) = wi_cm bd bv od n lc)
    {R : Nat → Prop} (hr : ∀ b, b < 16 → (rY b ≠ 0 ↔ R b)) (hJ : J322 (nI (n + 1))) :
    ∀ k p f, p + k = 64 → k < f → (∀ p', p ≤ p' → p' < 64 → rn_P R bd bv mo z fo nN wn fa p' → nN p' ≠ n) → wY_link_356 post J322 (nI e) (nI s) (nI n) (nI mM) (nI mS) (nI mI) (nI mc) (nI sc) L (nI lc) cl (na_v ar) (na_v mo) (na_v y) (na_v fo) (na_v nN) fa (na_v bd) (na_v bv) (na_v od) ly rY kd vl ou st aO aV cY oC f (nI p) := by
  intro k
  induction k with
  | zero =>
    intro p f hp hf _
    obtain ⟨f, rfl⟩ := na_fu hf
    exact pk_le 64 p (fun _ => nm_r (nI_1 n) hJ) (fun h => absurd h (by omega))
  | succ k ih =>
    intro p f hp hf h
    obtain ⟨f, rfl⟩ := na_fu hf
    exact rn_ys (by omega) hn hF hl hd hw hzc hr (fun a b => absurd b (h p (by omega) (by omega) a)) (fun _ => ih (p + 1) f (by omega) (by omega) (fun p' a b => h p' (by omega) b))
theorem rn_yh {post : Int32 → SY → Prop} {J322 : Int32 → Prop} {n : Nat} (hn : n < 8) (hF : fd_ok mM mS mI mc sc ar bd bv mo z y fo nN od fa fn) (hl : lc ≤ 8) (hd : wi_nd bd od lc) (hw : ∀ n, n < 8 → wn n = wi_wn bd bv od lc n) (hzc : ∀ n, n < 8 → z (8 + n) = wi_cm bd bv od n lc)
    {R : Nat → Prop} (hr : ∀ b, b < 16 → (rY b ≠ 0 ↔ R b)) (hJ : post (64 + nI n) (nI mM, nI mS, nI mI, nI mc, nI sc, L, nI lc, cl, na_v ar, na_v mo, na_v y, na_v fo, na_v nN, fa, na_v bd, na_v bv, na_v od, ly, rY, kd, vl, ou, st, aO, aV, cY, oC)) :
    ∀ k p f, p + k = 64 → k < f → (∃ p', p ≤ p' ∧ p' < 64 ∧ rn_P R bd bv mo z fo nN wn fa p' ∧ nN p' = n) → wY_link_356 post J322 (nI e) (nI s) (nI n) (nI mM) (nI mS) (nI mI) (nI mc) (nI sc) L (nI lc) cl (na_v ar) (na_v mo) (na_v y) (na_v fo) (na_v nN) fa (na_v bd) (na_v bv) (na_v od) ly rY kd vl ou st aO aV cY oC f (nI p) := by
  intro k
  induction k with
  | zero =>
    intro p f hp hf h
    obtain ⟨p', a, b, _⟩ := h
    omega
  | succ k ih =>
    intro p f hp hf h
    obtain ⟨f, rfl⟩ := na_fu hf
    refine rn_ys (by omega) hn hF hl hd hw hzc hr (fun a b => hJ) (fun q => ih (p + 1) f (by omega) (by omega) ?_)
    obtain ⟨p', a, b, c, d⟩ := h
    refine ⟨p', ?_, b, c, d⟩
    by_cases e2 : p' = p
    · subst e2; exact absurd ⟨c, d⟩ q
    · omega
/-- the entry's own check, then the places -/
theorem rn_ye {post : Int32 → SY → Prop} {n f : Nat} (hn : n < 8) (he : e < 8) (hs : s < 128) (hF : fd_ok mM mS mI mc sc ar bd bv mo z y fo nN od fa fn) (hl : lc ≤ 8) (hzc : ∀ n, n < 8 → z (8 + n) = wi_cm bd bv od n lc)
    (h1 : n = e → ¬ s % 8 < z (s / 8) → post (64 + nI n) (nI mM, nI mS, nI mI, nI mc, nI sc, L, nI lc, cl, na_v ar, na_v mo, na_v y, na_v fo, na_v nN, fa, na_v bd, na_v bv, na_v od, ly, rY, kd, vl, ou, st, aO, aV, cY, oC)) (h0 : ¬ (n = e ∧ ¬ s % 8 < z (s / 8)) → ∃ n356, wY_link_356 post (wY_link_322 post (nI e) (nI s) (nI mM) (nI mS) (nI mI) (nI mc) (nI sc) L (nI lc) cl (na_v ar) (na_v mo) (na_v y) (na_v fo) (na_v nN) fa (na_v bd) (na_v bv) (na_v od) ly rY kd vl ou st aO aV cY oC f) (nI e) (nI s) (nI n) (nI mM) (nI mS) (nI mI) (nI mc) (nI sc) L (nI lc) cl (na_v ar) (na_v mo) (na_v y) (na_v fo) (na_v nN) fa (na_v bd) (na_v bv) (na_v od) ly rY kd vl ou st aO aV cY oC n356 0) : wY_link_322 post (nI e) (nI s) (nI mM) (nI mS) (nI mI) (nI mc) (nI sc) L (nI lc) cl (na_v ar) (na_v mo) (na_v y) (na_v fo) (na_v nN) fa (na_v bd) (na_v bv) (na_v od) ly rY kd vl ou st aO aV cY oC (f + 1) (nI n) := by
  have hz8 : z (s / 8) ≤ 8 := hF.2.2.2.2.2.2.2.2.1 _
  refine pk_le 8 n (fun h => absurd h (by omega)) (fun _ => pk_eq n e (fun q => ⟨by decide, by decide, ?_⟩) (fun q => h0 (fun w => q w.1)))
  rw [na_d8 (by omega)]
  refine wi_ys (by omega) hF hl hzc (pk_lt (s % 8) (z (s / 8)) (fun g => h0 (fun w => w.2 g)) (fun g => h1 q (by omega)) ?_)
  rw [← na_d8 (by omega)]; exact na_r8 (by omega)
theorem rn_y {post : Int32 → SY → Prop} {r : Int32} (he : e < 8) (hs : s < 128) (hF : fd_ok mM mS mI mc sc ar bd bv mo z y fo nN od fa fn) (hl : lc ≤ 8) (hd : wi_nd bd od lc) (hw : ∀ n, n < 8 → wn n = wi_wn bd bv od lc n) (hzc : ∀ n, n < 8 → z (8 + n) = wi_cm bd bv od n lc)
    {R : Nat → Prop} (hr : ∀ b, b < 16 → (rY b ≠ 0 ↔ R b)) (hls : ls_ok (rn_P R bd bv mo z fo nN wn fa) nN (¬ s % 8 < z (s / 8)) e 64 r) (h0 : r = -1 → wY_link_322 post (nI e) (nI s) (nI mM) (nI mS) (nI mI) (nI mc) (nI sc) L (nI lc) cl (na_v ar) (na_v mo) (na_v y) (na_v fo) (na_v nN) fa (na_v bd) (na_v bv) (na_v od) ly rY kd vl ou st aO aV cY oC 1 (nI 8)) (h1 : ∀ n, n < 8 → r = nI n → post (64 + nI n) (nI mM, nI mS, nI mI, nI mc, nI sc, L, nI lc, cl, na_v ar, na_v mo, na_v y, na_v fo, na_v nN, fa, na_v bd, na_v bv, na_v od, ly, rY, kd, vl, ou, st, aO, aV, cY, oC)) :
    ∀ k n, n + k = 8 → (∀ m, r = nI m → m < 8 → n ≤ m) → wY_link_322 post (nI e) (nI s) (nI mM) (nI mS) (nI mI) (nI mc) (nI sc) L (nI lc) cl (na_v ar) (na_v mo) (na_v y) (na_v fo) (na_v nN) fa (na_v bd) (na_v bv) (na_v od) ly rY kd vl ou st aO aV cY oC (k + 1) (nI n) := by
  intro k
  induction k with
  | zero =>
    intro n hn hm
    obtain rfl : n = 8 := by omega
    refine h0 ?_
    rcases hls with ⟨a, _⟩ | ⟨m, a, b, _⟩
    · exact a
    · have := hm m a b; omega
  | succ k ih =>
    intro n hn hm
    rcases hls with ⟨a, b, c⟩ | ⟨m, a, b, c, d, g⟩
    · exact rn_ye (by omega) he hs hF hl hzc (fun _ q => absurd q b) (fun _ => ⟨65, rn_yp (by omega) hF hl hd hw hzc hr (ih (n + 1) (by omega) (fun m q hm8 => absurd (a.symm.trans q).symm (na_ne1 (by omega)))) 64 0 65 (by omega) (by omega) (fun p' _ hp' hP => absurd hP (c p' hp'))⟩)
    · have hnm := hm m a b
      by_cases en : n = m
      · subst en
        refine rn_ye (by omega) he hs hF hl hzc (fun _ _ => h1 n b a) (fun w => ⟨65, ?_⟩)
        rcases c with c | ⟨p, c1, c2, c3⟩
        · exact absurd ⟨c.2, c.1⟩ w
        · exact rn_yh (by omega) hF hl hd hw hzc hr (h1 n b a) 64 0 65 (by omega) (by omega) ⟨p, by omega, c1, c2, c3⟩
      · refine rn_ye (by omega) he hs hF hl hzc (fun q1 q2 => by have := d q2; omega) (fun _ => ⟨65, rn_yp (by omega) hF hl hd hw hzc hr (ih (n + 1) (by omega) (fun m' q hm8 => ?_)) 64 0 65 (by omega) (by omega) (fun p' _ hp' hP => by have := g p' hp' hP; omega)⟩)
        have := na_im (a.symm.trans q) (by omega) (by omega)
        omega
end
end
section
/-! the layout grows by one block -/
theorem lo_add {z : Nat → Nat} {C b g : Nat} {ba ly ly' : Nat → Int32} (hz : ∀ i, z i ≤ 8) (h : lo_ok z C ba ly) (hC : C < 1000) (hb : b < 16) (h0 : ba b = -1) (hg : g ≤ 1) (hb8 : b < 8 → g = 1)
    (h1 : ∀ a, a < C → ly' a = ly a) (h2 : ∀ o, o < z b → ly' (C + o) = nI (8 * b + o)) (h3 : g = 1 → ly' (C + z b) = -1) : lo_ok z (C + z b + g) (upd ba b (nI C)) ly' := by
  obtain ⟨l1, l2, l3, l4⟩ := h
  have hz8 := hz b
  refine ⟨by omega, by rw [h1 0 (by omega)]; exact l2, fun c hc => ?_, fun a ha => ?_⟩
  · by_cases e : c = b
    · subst e
      exact Or.inr ⟨C, pk_us, l1, by omega, h2, fun q => ⟨by have := hb8 q; omega, h3 (hb8 q)⟩⟩
    · rw [pk_un e]
      rcases l3 c hc with q | ⟨B, b1, b2, b3, b4, b5⟩
      · exact Or.inl q
      · refine Or.inr ⟨B, b1, b2, by omega, fun o ho => ?_, fun q => ?_⟩
        · rw [h1 _ (by omega)]; exact b4 o ho
        · obtain ⟨c1, c2⟩ := b5 q
          exact ⟨by omega, by rw [h1 _ (by omega)]; exact c2⟩
  · by_cases ha1 : a < C
    · rcases l4 a ha1 with q | ⟨c, o, B, c1, c2, c3, c4, c5⟩
      · exact Or.inl (by rw [h1 a ha1]; exact q)
      · have hne : c ≠ b := fun q => by
          rw [q, h0] at c3
          exact na_ne1 (a := B) (by omega) c3.symm
        exact Or.inr ⟨c, o, B, c1, c2, by rw [pk_un hne]; exact c3, c4, by rw [h1 a ha1]; exact c5⟩
    · by_cases ha2 : a < C + z b
      · refine Or.inr ⟨b, a - C, C, hb, by omega, pk_us, by omega, ?_⟩
        have := h2 (a - C) (by omega)
        rw [show C + (a - C) = a from by omega] at this
        exact this
      · have ea : a = C + z b := by omega
        exact Or.inl (by rw [ea]; exact h3 (by omega))
def lo_n (ba : Nat → Int32) : Nat := na_cn (fun b => decide (ba b ≠ -1)) 8
/-- while the sections are laid out: module i, section s -/
def lo_i (R : Nat → Prop) (lc sc : Nat) (mo z od : Nat → Nat) (i s C : Nat) (ba ly : Nat → Int32) : Prop :=
  lo_ok z C ba ly ∧ C ≤ 1 + 9 * lo_n ba ∧ (∀ b, b < 16 → ba b ≠ -1 → b < 8 ∧ R b ∧ ∃ j, j < lc ∧ mo b = od j ∧ (j < i ∨ (j = i ∧ b < s))) ∧
  (∀ b j, b < sc → R b → j < lc → mo b = od j → (j < i ∨ (j = i ∧ b < s)) → ba b ≠ -1)
theorem lo_sk {R : Nat → Prop} {lc sc : Nat} {mo z od : Nat → Nat} {i s C : Nat} {ba ly : Nat → Int32} (h : lo_i R lc sc mo z od i s C ba ly) (hn : ¬ (mo s = od i ∧ R s)) : lo_i R lc sc mo z od i (s + 1) C ba ly := by
  obtain ⟨h1, h2, h3, h4⟩ := h
  refine ⟨h1, h2, fun b hb hr => ?_, fun b j hb hR hj hm hd => ?_⟩
  · obtain ⟨a, aR, j, b1, b2, b3⟩ := h3 b hb hr
    exact ⟨a, aR, j, b1, b2, by omega⟩
  · by_cases e : j = i ∧ b = s
    · obtain ⟨rfl, rfl⟩ := e
      exact absurd ⟨hm, hR⟩ hn
    · exact h4 b j hb hR hj hm (by omega)
theorem lo_tk {R : Nat → Prop} {lc sc : Nat} {mo z od : Nat → Nat} {i s C : Nat} {ba ly ly' : Nat → Int32} (hz : ∀ i, z i ≤ 8) (h : lo_i R lc sc mo z od i s C ba ly) (hd : ∀ i j, i < lc → j < lc → od i = od j → i = j) (hi : i < lc) (hs : s < 8) (hm : mo s = od i) (hR0 : R s)
    (hC : C < 1000) (h0 : ba s = -1)
    (k1 : ∀ a, a < C → ly' a = ly a) (k2 : ∀ o, o < z s → ly' (C + o) = nI (8 * s + o)) (k3 : ly' (C + z s) = -1) : lo_i R lc sc mo z od i (s + 1) (C + z s + 1) (upd ba s (nI C)) ly' := by
  obtain ⟨h1, h2, h3, h4⟩ := h
  have hz8 := hz s
  refine ⟨lo_add hz h1 hC (by omega) h0 (by omega) (fun _ => rfl) k1 k2 (fun _ => k3), ?_, fun b hb hr => ?_, fun b j hb hR hj hmj hdd => ?_⟩
  · have := na_cn_up (f := fun b => decide (ba b ≠ -1)) (g := fun b => decide (upd ba s (nI C) b ≠ -1)) (j := s) (decide_eq_false (fun q => q h0)) (decide_eq_true (by rw [pk_us]; exact na_ne1 (by omega))) (fun i hi => by rw [pk_un hi]) 8 hs
    unfold lo_n at h2 ⊢
    omega
  · by_cases e : b = s
    · subst e
      exact ⟨hs, hR0, i, hi, hm, by omega⟩
    · rw [pk_un e] at hr
      obtain ⟨a, aR, j, b1, b2, b3⟩ := h3 b hb hr
      exact ⟨a, aR, j, b1, b2, by omega⟩
  · by_cases e : b = s
    · subst e
      rw [pk_us]; exact na_ne1 (by omega)
    · rw [pk_un e]
      exact h4 b j hb hR hj hmj (by omega)
theorem lo_fr {R : Nat → Prop} {lc sc : Nat} {mo z od : Nat → Nat} {i s C : Nat} {ba ly : Nat → Int32} (h : lo_i R lc sc mo z od i s C ba ly) (hd : ∀ i j, i < lc → j < lc → od i = od j → i = j) (hi : i < lc) (hs : s < 8) (hm : mo s = od i) : ba s = -1 ∧ C ≤ 64 := by
  obtain ⟨h1, h2, h3, h4⟩ := h
  have h0 : ba s = -1 := Decidable.byContradiction (fun q => by
    obtain ⟨_, _, j, b1, b2, b3⟩ := h3 s (by omega) q
    have := hd j i b1 hi (b2.symm.trans hm)
    omega)
  have := na_cn_lt (f := fun b => decide (ba b ≠ -1)) (decide_eq_false (fun q => q h0)) 8 hs
  unfold lo_n at h2
  exact ⟨h0, by omega⟩
section
variable {mM mS mI mc sc lc : Nat} {ar bd bv mo z y fo nN od : Nat → Nat} {L qc cc cl : Int32} {fa fn po wn rt qu ba pa mO mA st ct aO aA oC ou ly rY kd vl aV cY : Nat → Int32}
variable {i s b : Nat}
theorem lo_x {post : SX → Prop} {C g : Nat} {x : Int32} (hb : b < 16) (hg : x = nI g) (hp : post (0, 6, 7, nI mM, nI mS, nI mI, nI mc, nI sc, L, nI lc, qc, nI (C + z b + g), na_v ar, na_v bd, na_v bv, na_v mo, na_v z, na_v fo, fa, fn, na_v od, po, wn, rt, qu, upd ba b (nI C), pa, mO, mA, st, ct, aO, aA, oC, ou)) : wpX_allot post (0, 6, 7, nI mM, nI mS, nI mI, nI mc, nI sc, L, nI lc, qc, nI C, na_v ar, na_v bd, na_v bv, na_v mo, na_v z, na_v fo, fa, fn, na_v od, po, wn, rt, qu, ba, pa, mO, mA, st, ct, aO, aA, oC, ou) (nI b) x :=
  ⟨vp_in_nI hb (by decide), nm_r (na_uc (by omega)) ⟨vp_in_nI hb (by decide), nm_r (e' := nI (C + z b + g)) (by rw [na_r (by omega), hg, nI_add, nI_add]; exact congrArg nI (by omega)) hp⟩⟩
/-! Y: the cells of a section, and its guard -/
theorem lo_y68 (hs : s < 8) (hy8 : y s ≤ 8) : ∀ (k o C : Nat) (ly : Nat → Int32), o + k = y s → C + k < 140 → ∃ ly', (∀ a, a < C → ly' a = ly a) ∧ (∀ o', o ≤ o' → o' < y s → ly' (C + (o' - o)) = nI (8 * s + o')) ∧ ly' (C + k) = -1 ∧
    ∀ (post : SY → Prop) J24 J34 (f : Nat), k < f → J34 (nI (s + 1)) (nI (C + k + 1)) (na_v ar) (na_v mo) (na_v y) (na_v fo) (na_v nN) fa (na_v bd) (na_v bv) (na_v od) ly' rY kd vl ou st aO aV cY oC → wY_layOut_68 post J24 J34 (nI i) (nI s) (nI mM) (nI mS) (nI mI) (nI mc) (nI sc) L (nI lc) f (nI o) (nI C) (na_v ar) (na_v mo) (na_v y) (na_v fo) (na_v nN) fa (na_v bd) (na_v bv) (na_v od) ly rY kd vl ou st aO aV cY oC := by
  intro k
  induction k with
  | zero =>
    intro o C ly ho hC
    refine ⟨upd ly C (-1), fun a ha => pk_un (by omega), fun o' h1 h2 => absurd h2 (by omega), pk_us, fun post J24 J34 f hf hp => ?_⟩
    obtain ⟨f, rfl⟩ := na_fu hf
    exact ⟨vp_in_nI hs (by decide), pk_le (y s) o (fun _ => nm_r (nI_1 C) ⟨vp_in_nI (by omega) (by decide), nm_r (na_uc (by omega)) (nm_r (nI_1 s) hp)⟩) (fun h => absurd h (by omega)) (na_r (by omega))⟩
  | succ k ih =>
    intro o C ly ho hC
    obtain ⟨ly', a1, a2, a3, a4⟩ := ih (o + 1) (C + 1) (upd ly C (nI (8 * s + o))) (by omega) (by omega)
    refine ⟨ly', fun a ha => by rw [a1 a (by omega), pk_un (by omega)], fun o' h1 h2 => ?_, by rw [show C + (k + 1) = C + 1 + k from by omega]; exact a3, fun post J24 J34 f hf hp => ?_⟩
    · by_cases e : o' = o
      · subst e
        rw [show C + (o' - o') = C from by omega, a1 C (by omega), pk_us]
      · have := a2 o' (by omega) h2
        rw [show C + 1 + (o' - (o + 1)) = C + (o' - o) from by omega] at this
        exact this
    · obtain ⟨f, rfl⟩ := na_fu hf
      refine ⟨vp_in_nI hs (by decide), pk_le (y s) o (fun h => absurd h (by omega)) (fun _ => nm_r (nI_1 C) ⟨vp_in_nI (by omega) (by decide), nm_r (e' := upd ly C (nI (8 * s + o))) (by rw [na_8]; exact na_uc (by omega)) (nm_r (nI_1 o) (a4 post J24 J34 f (by omega) ?_))⟩) (na_r (by omega))⟩
      rw [show C + 1 + k + 1 = C + (k + 1) + 1 from by omega]
      exact hp
/-! the sections of one module -/
theorem lo_in (hF : fd_ok mM mS mI mc sc ar bd bv mo z y fo nN od fa fn) (hl : lc ≤ 8) (hd : ∀ i j, i < lc → j < lc → od i = od j → i = j) {R : Nat → Prop} (hr : ∀ b, b < 16 → (rt b ≠ 0 ↔ R b)) (hrY : ∀ b, b < 16 → (rY b ≠ 0 ↔ R b)) (hi : i < lc) :
    ∀ (k s C : Nat) (ba ly : Nat → Int32), s + k = sc → lo_i R lc sc mo z od i s C ba ly → ∃ (C' : Nat) (ba' ly' : Nat → Int32), lo_i R lc sc mo z od (i + 1) 0 C' ba' ly' ∧
      (∀ (post : SX → Prop) J28 (f : Nat), k < f → J28 (nI (i + 1)) 0 6 7 (nI mM) (nI mS) (nI mI) (nI mc) (nI sc) L (nI lc) qc (nI C') (na_v ar) (na_v bd) (na_v bv) (na_v mo) (na_v z) (na_v fo) fa fn (na_v od) po wn rt qu ba' pa mO mA st ct aO aA oC ou → wX_layOut_38 post J28 (nI i) f (nI s) 0 6 7 (nI mM) (nI mS) (nI mI) (nI mc) (nI sc) L (nI lc) qc (nI C) (na_v ar) (na_v bd) (na_v bv) (na_v mo) (na_v z) (na_v fo) fa fn (na_v od) po wn rt qu ba pa mO mA st ct aO aA oC ou) ∧
      (∀ (post : SY → Prop) J24 (f : Nat), k < f → J24 (nI (i + 1)) (nI C') (na_v ar) (na_v mo) (na_v y) (na_v fo) (na_v nN) fa (na_v bd) (na_v bv) (na_v od) ly' rY kd vl ou st aO aV cY oC → wY_layOut_34 post J24 (nI i) (nI mM) (nI mS) (nI mI) (nI mc) (nI sc) L (nI lc) f (nI s) (nI C) (na_v ar) (na_v mo) (na_v y) (na_v fo) (na_v nN) fa (na_v bd) (na_v bv) (na_v od) ly rY kd vl ou st aO aV cY oC) := by
  obtain ⟨h1, h2, h3, h4, h5, h6, h7, h8, h9, h10, h11, h12, h13, h14, h15, h16, h17⟩ := hF
  have hoi := h17 i
  intro k
  induction k with
  | zero =>
    intro s C ba ly hs h
    refine ⟨C, ba, ly, ?_, fun post J28 f hf hp => ?_, fun post J24 f hf hp => ?_⟩
    · obtain ⟨g1, g2, g3, g4⟩ := h
      refine ⟨g1, g2, fun b hb hr => ?_, fun b j hb hR hj hm hdd => g4 b j hb hR hj hm (by omega)⟩
      obtain ⟨a, aR, j, b1, b2, b3⟩ := g3 b hb hr
      exact ⟨a, aR, j, b1, b2, by omega⟩
    · obtain ⟨f, rfl⟩ := na_fu hf
      exact pk_le sc s (fun _ => nm_r (nI_1 i) hp) (fun h => absurd h (by omega))
    · obtain ⟨f, rfl⟩ := na_fu hf
      exact pk_le sc s (fun _ => nm_r (nI_1 i) hp) (fun h => absurd h (by omega))
  | succ k ih =>
    intro s C ba ly hs h
    have hms := h7 s
    have hs8 : vp_in (nI s) 8 := vp_in_nI (by omega) (by decide)
    have hs16 : vp_in (nI s) 16 := vp_in_nI (by omega) (by decide)
    have hi8 : vp_in (nI i) 8 := vp_in_nI (by omega) (by decide)
    have ec : (nI s).toNatClampNeg = s := nI_clamp (by omega)
    by_cases hc : mo s = od i ∧ R s
    · obtain ⟨hm, hR⟩ := hc
      have hrs := (hr s (by omega)).mpr hR
      have hrsY := (hrY s (by omega)).mpr hR
      obtain ⟨hb0, hC64⟩ := lo_fr h hd hi (by omega) hm
      have hy8 := h9 s
      have hys := h10 s (by omega)
      obtain ⟨ly1, a1, a2, a3, a4⟩ := lo_y68 (mM := mM) (mS := mS) (mI := mI) (mc := mc) (sc := sc) (lc := lc) (ar := ar) (bd := bd) (bv := bv) (mo := mo) (y := y) (fo := fo) (nN := nN) (od := od) (L := L) (fa := fa) (oC := oC) (ou := ou) (rY := rY) (kd := kd) (vl := vl) (st := st) (aO := aO) (aV := aV) (cY := cY) (i := i) (s := s) (by omega) (by omega) (y s) 0 C ly (by omega) (by omega)
      rw [hys] at a2 a3 a4
      have hstep := lo_tk h9 h hd hi (by omega) hm hR (by omega) hb0 a1 (fun o ho => by have := a2 o (by omega) ho; rw [Nat.sub_zero] at this; exact this) a3
      obtain ⟨C', ba', ly', b1, b2, b3⟩ := ih (s + 1) (C + z s + 1) (upd ba s (nI C)) ly1 (by omega) hstep
      refine ⟨C', ba', ly', b1, fun post J28 f hf hp => ?_, fun post J24 f hf hp => ?_⟩
      · obtain ⟨f, rfl⟩ := na_fu hf
        exact pk_le sc s (fun h => absurd h (by omega)) (fun _ => ⟨hs8, hi8, pk_eq (mo s) (od i) (fun _ => ⟨hs16, br_f (by rw [ec]; exact hrs) (lo_x (by omega) (g := 1) rfl (nm_r (nI_1 s) (b2 post J28 f (by omega) hp)))⟩) (fun q => absurd hm q) (na_r (by omega)) (na_r (by omega))⟩)
      · obtain ⟨f, rfl⟩ := na_fu hf
        exact pk_le sc s (fun h => absurd h (by omega)) (fun _ => ⟨hs16, br_f (by rw [ec]; exact hrsY) ⟨hs8, hi8, pk_eq (mo s) (od i) (fun _ => ⟨z s + 1, a4 post J24 _ (z s + 1) (by omega) (b3 post J24 f (by omega) hp)⟩) (fun q => absurd hm q) (na_r (by omega)) (na_r (by omega))⟩⟩)
    · obtain ⟨C', ba', ly', b1, b2, b3⟩ := ih (s + 1) C ba ly (by omega) (lo_sk h hc)
      refine ⟨C', ba', ly', b1, fun post J28 f hf hp => ?_, fun post J24 f hf hp => ?_⟩
      · obtain ⟨f, rfl⟩ := na_fu hf
        have K := b2 post J28 f (by omega) hp
        exact pk_le sc s (fun h => absurd h (by omega)) (fun _ => ⟨hs8, hi8, pk_eq (mo s) (od i) (fun hm => ⟨hs16, br_t (by rw [ec]; exact Decidable.byContradiction (fun q => hc ⟨hm, (hr s (by omega)).mp q⟩)) (nm_r (nI_1 s) K)⟩) (fun q => nm_r (nI_1 s) K) (na_r (by omega)) (na_r (by omega))⟩)
      · obtain ⟨f, rfl⟩ := na_fu hf
        have K := b3 post J24 f (by omega) hp
        refine pk_le sc s (fun h => absurd h (by omega)) (fun _ => ⟨hs16, br_c (fun _ => nm_r (nI_1 s) K) (fun hr0 => ⟨hs8, hi8, pk_eq (mo s) (od i) (fun hm => ?_) (fun q => nm_r (nI_1 s) K) (na_r (by omega)) (na_r (by omega))⟩)⟩)
        rw [ec] at hr0
        exact absurd ⟨hm, (hrY s (by omega)).mp hr0⟩ hc
theorem lo_ou (hF : fd_ok mM mS mI mc sc ar bd bv mo z y fo nN od fa fn) (hl : lc ≤ 8) (hd : ∀ i j, i < lc → j < lc → od i = od j → i = j) {R : Nat → Prop} (hr : ∀ b, b < 16 → (rt b ≠ 0 ↔ R b)) (hrY : ∀ b, b < 16 → (rY b ≠ 0 ↔ R b)) :
    ∀ (k i C : Nat) (ba ly : Nat → Int32), i + k = lc → lo_i R lc sc mo z od i 0 C ba ly → ∃ (C' : Nat) (ba' ly' : Nat → Int32), lo_i R lc sc mo z od lc 0 C' ba' ly' ∧
      (∀ (post : SX → Prop) (f : Nat), k < f → (∃ n91, wX_layOut_91 post n91 8 0 6 7 (nI mM) (nI mS) (nI mI) (nI mc) (nI sc) L (nI lc) qc (nI C') (na_v ar) (na_v bd) (na_v bv) (na_v mo) (na_v z) (na_v fo) fa fn (na_v od) po wn rt qu ba' pa mO mA st ct aO aA oC ou) → wX_layOut_28 post f (nI i) 0 6 7 (nI mM) (nI mS) (nI mI) (nI mc) (nI sc) L (nI lc) qc (nI C) (na_v ar) (na_v bd) (na_v bv) (na_v mo) (na_v z) (na_v fo) fa fn (na_v od) po wn rt qu ba pa mO mA st ct aO aA oC ou) ∧
      (∀ (post : SY → Prop) (f : Nat), k < f → (∃ n138, wY_layOut_138 post (nI mM) (nI mS) (nI mI) (nI mc) (nI sc) L (nI lc) n138 8 (nI C') (na_v ar) (na_v mo) (na_v y) (na_v fo) (na_v nN) fa (na_v bd) (na_v bv) (na_v od) ly' rY kd vl ou st aO aV cY oC) → wY_layOut_24 post (nI mM) (nI mS) (nI mI) (nI mc) (nI sc) L (nI lc) f (nI i) (nI C) (na_v ar) (na_v mo) (na_v y) (na_v fo) (na_v nN) fa (na_v bd) (na_v bv) (na_v od) ly rY kd vl ou st aO aV cY oC) := by
  have h1 := hF.1
  intro k
  induction k with
  | zero =>
    intro i C ba ly hi h
    obtain rfl : i = lc := by omega
    refine ⟨C, ba, ly, h, fun post f hf hp => ?_, fun post f hf hp => ?_⟩
    · obtain ⟨f, rfl⟩ := na_fu hf
      exact pk_le i i (fun _ => hp) (fun h => absurd h (by omega))
    · obtain ⟨f, rfl⟩ := na_fu hf
      exact pk_le i i (fun _ => hp) (fun h => absurd h (by omega))
  | succ k ih =>
    intro i C ba ly hi h
    obtain ⟨C1, ba1, ly1, a1, a2, a3⟩ := lo_in (mM := mM) (mS := mS) (mI := mI) (mc := mc) (sc := sc) (lc := lc) (ar := ar) (bd := bd) (bv := bv) (mo := mo) (z := z) (y := y) (fo := fo) (nN := nN) (od := od) (L := L) (qc := qc) (fa := fa) (fn := fn) (po := po) (wn := wn) (rt := rt) (qu := qu) (pa := pa) (mO := mO) (mA := mA) (st := st) (ct := ct) (aO := aO) (aA := aA) (oC := oC) (ou := ou) (rY := rY) (kd := kd) (vl := vl) (aV := aV) (cY := cY) (i := i) hF hl hd hr hrY (by omega) sc 0 C ba ly (by omega) h
    obtain ⟨C', ba', ly', b1, b2, b3⟩ := ih (i + 1) C1 ba1 ly1 (by omega) a1
    refine ⟨C', ba', ly', b1, fun post f hf hp => ?_, fun post f hf hp => ?_⟩
    · obtain ⟨f, rfl⟩ := na_fu hf
      exact pk_le lc i (fun h => absurd h (by omega)) (fun _ => ⟨sc + 1, a2 post _ (sc + 1) (by omega) (b2 post f (by omega) hp)⟩)
    · obtain ⟨f, rfl⟩ := na_fu hf
      exact pk_le lc i (fun h => absurd h (by omega)) (fun _ => ⟨sc + 1, a3 post _ (sc + 1) (by omega) (b3 post f (by omega) hp)⟩)
/-! the commons -/
theorem lo_y146n {post : SY → Prop} {J138} {C : Nat} (hb : b < 16) (h0 : rY b = 0) (hp : J138 (nI (b + 1)) (nI C) (na_v ar) (na_v mo) (na_v y) (na_v fo) (na_v nN) fa (na_v bd) (na_v bv) (na_v od) ly rY kd vl ou st aO aV cY oC) : ∀ k o f, o + k = 8 → k < f → wY_layOut_146 post J138 (nI b) (nI mM) (nI mS) (nI mI) (nI mc) (nI sc) L (nI lc) f (nI o) (nI C) (na_v ar) (na_v mo) (na_v y) (na_v fo) (na_v nN) fa (na_v bd) (na_v bv) (na_v od) ly rY kd vl ou st aO aV cY oC := by
  intro k
  induction k with
  | zero =>
    intro o f ho hf
    obtain ⟨f, rfl⟩ := na_fu hf
    exact pk_le 8 o (fun _ => nm_r (nI_1 b) hp) (fun h => absurd h (by omega))
  | succ k ih =>
    intro o f ho hf
    obtain ⟨f, rfl⟩ := na_fu hf
    exact pk_le 8 o (fun h => absurd h (by omega)) (fun _ => ⟨vp_in_nI hb (by decide), br_t (by rw [nI_clamp (by omega)]; exact h0) (nm_r (nI_1 o) (ih (o + 1) f (by omega) (by omega)))⟩)
theorem lo_y146 (hF : fd_ok mM mS mI mc sc ar bd bv mo z y fo nN od fa fn) (hl : lc ≤ 8) (hzc : ∀ n, n < 8 → z (8 + n) = wi_cm bd bv od n lc) (hb : b < 16) (h0 : rY b ≠ 0) : ∀ (k o C : Nat) (ly : Nat → Int32), o + k = 8 → C + (z b - o) < 144 → ∃ ly', (∀ a, a < C → ly' a = ly a) ∧ (∀ o', o ≤ o' → o' < z b → ly' (C + (o' - o)) = nI (8 * b + o')) ∧
    ∀ (post : SY → Prop) J138 (f : Nat), k < f → J138 (nI (b + 1)) (nI (C + (z b - o))) (na_v ar) (na_v mo) (na_v y) (na_v fo) (na_v nN) fa (na_v bd) (na_v bv) (na_v od) ly' rY kd vl ou st aO aV cY oC → wY_layOut_146 post J138 (nI b) (nI mM) (nI mS) (nI mI) (nI mc) (nI sc) L (nI lc) f (nI o) (nI C) (na_v ar) (na_v mo) (na_v y) (na_v fo) (na_v nN) fa (na_v bd) (na_v bv) (na_v od) ly rY kd vl ou st aO aV cY oC := by
  have hz8 : z b ≤ 8 := hF.2.2.2.2.2.2.2.2.1 b
  have hb16 : vp_in (nI b) 16 := vp_in_nI hb (by decide)
  have hr0 : ¬ rY (nI b).toNatClampNeg = 0 := by rw [nI_clamp (by omega)]; exact h0
  intro k
  induction k with
  | zero =>
    intro o C ly ho hC
    refine ⟨ly, fun a ha => rfl, fun o' h1 h2 => absurd h2 (by omega), fun post J138 f hf hp => ?_⟩
    obtain ⟨f, rfl⟩ := na_fu hf
    rw [show C + (z b - o) = C from by omega] at hp
    exact pk_le 8 o (fun _ => nm_r (nI_1 b) hp) (fun h => absurd h (by omega))
  | succ k ih =>
    intro o C ly ho hC
    by_cases hlt : o < z b
    · obtain ⟨ly', a1, a2, a3⟩ := ih (o + 1) (C + 1) (upd ly C (nI (8 * b + o))) (by omega) (by omega)
      refine ⟨ly', fun a ha => by rw [a1 a (by omega), pk_un (by omega)], fun o' h1 h2 => ?_, fun post J138 f hf hp => ?_⟩
      · by_cases e : o' = o
        · subst e
          rw [show C + (o' - o') = C from by omega, a1 C (by omega), pk_us]
        · have := a2 o' (by omega) h2
          rw [show C + 1 + (o' - (o + 1)) = C + (o' - o) from by omega] at this
          exact this
      · obtain ⟨f, rfl⟩ := na_fu hf
        rw [show C + (z b - o) = C + 1 + (z b - (o + 1)) from by omega] at hp
        exact pk_le 8 o (fun h => absurd h (by omega)) (fun _ => ⟨hb16, br_f hr0 (wi_ys hb hF hl hzc (pk_le (z b) o (fun h => absurd h (by omega)) (fun _ => nm_r (nI_1 C) ⟨vp_in_nI (by omega) (by decide), nm_r (e' := upd ly C (nI (8 * b + o))) (by rw [na_8]; exact na_uc (by omega)) (nm_r (nI_1 o) (a3 post J138 f (by omega) hp))⟩)))⟩)
    · obtain ⟨ly', a1, a2, a3⟩ := ih (o + 1) C ly (by omega) (by omega)
      refine ⟨ly', a1, fun o' h1 h2 => absurd h2 (by omega), fun post J138 f hf hp => ?_⟩
      obtain ⟨f, rfl⟩ := na_fu hf
      rw [show C + (z b - o) = C + (z b - (o + 1)) from by omega] at hp
      exact pk_le 8 o (fun h => absurd h (by omega)) (fun _ => ⟨hb16, br_f hr0 (wi_ys hb hF hl hzc (pk_le (z b) o (fun _ => nm_r (nI_1 o) (a3 post J138 f (by omega) hp)) (fun h => absurd h (by omega))))⟩)
def lo_j (R : Nat → Prop) (z : Nat → Nat) (b C : Nat) (ba ly : Nat → Int32) : Prop := lo_ok z C ba ly ∧ C ≤ 73 + 8 * (b - 8) ∧ (∀ c, b ≤ c → c < 16 → ba c = -1) ∧ (∀ c, c < b → R c → ba c ≠ -1) ∧ (∀ c, c < 16 → ba c ≠ -1 → R c)
theorem lo_cm (hF : fd_ok mM mS mI mc sc ar bd bv mo z y fo nN od fa fn) (hl : lc ≤ 8) (hzc : ∀ n, n < 8 → z (8 + n) = wi_cm bd bv od n lc) {R : Nat → Prop} (hr : ∀ b, b < 16 → (rt b ≠ 0 ↔ R b)) (hrY : ∀ b, b < 16 → (rY b ≠ 0 ↔ R b)) :
    ∀ (k b C : Nat) (ba ly : Nat → Int32), b + k = 16 → 8 ≤ b → lo_j R z b C ba ly → ∃ (C' : Nat) (ba' ly' : Nat → Int32), lo_j R z 16 C' ba' ly' ∧
      (∀ (post : SX → Prop) (f : Nat), k < f → post (0, 6, 7, nI mM, nI mS, nI mI, nI mc, nI sc, L, nI lc, qc, nI C', na_v ar, na_v bd, na_v bv, na_v mo, na_v z, na_v fo, fa, fn, na_v od, po, wn, rt, qu, ba', pa, mO, mA, st, ct, aO, aA, oC, ou) → wX_layOut_91 post f (nI b) 0 6 7 (nI mM) (nI mS) (nI mI) (nI mc) (nI sc) L (nI lc) qc (nI C) (na_v ar) (na_v bd) (na_v bv) (na_v mo) (na_v z) (na_v fo) fa fn (na_v od) po wn rt qu ba pa mO mA st ct aO aA oC ou) ∧
      (∀ (post : SY → Prop) (f : Nat), k < f → post (nI mM, nI mS, nI mI, nI mc, nI sc, L, nI lc, nI C', na_v ar, na_v mo, na_v y, na_v fo, na_v nN, fa, na_v bd, na_v bv, na_v od, ly', rY, kd, vl, ou, st, aO, aV, cY, oC) → wY_layOut_138 post (nI mM) (nI mS) (nI mI) (nI mc) (nI sc) L (nI lc) f (nI b) (nI C) (na_v ar) (na_v mo) (na_v y) (na_v fo) (na_v nN) fa (na_v bd) (na_v bv) (na_v od) ly rY kd vl ou st aO aV cY oC) := by
  have hz : ∀ i, z i ≤ 8 := hF.2.2.2.2.2.2.2.2.1
  intro k
  induction k with
  | zero =>
    intro b C ba ly hb h8 h
    obtain rfl : b = 16 := by omega
    refine ⟨C, ba, ly, h, fun post f hf hp => ?_, fun post f hf hp => ?_⟩
    · obtain ⟨f, rfl⟩ := na_fu hf
      exact pk_le 16 16 (fun _ => hp) (fun h => absurd h (by omega))
    · obtain ⟨f, rfl⟩ := na_fu hf
      exact pk_le 16 16 (fun _ => hp) (fun h => absurd h (by omega))
  | succ k ih =>
    intro b C ba ly hb h8 h
    obtain ⟨g1, g2, g3, g4, g5⟩ := h
    have hz8 := hz b
    have hb16 : vp_in (nI b) 16 := vp_in_nI (by omega) (by decide)
    have ec : (nI b).toNatClampNeg = b := nI_clamp (by omega)
    by_cases hR : R b
    · have hrb := (hr b (by omega)).mpr hR
      have hrbY := (hrY b (by omega)).mpr hR
      obtain ⟨ly1, a1, a2, a3⟩ := lo_y146 (mM := mM) (mS := mS) (mI := mI) (mc := mc) (sc := sc) (lc := lc) (ar := ar) (bd := bd) (bv := bv) (mo := mo) (y := y) (fo := fo) (nN := nN) (od := od) (L := L) (fa := fa) (oC := oC) (ou := ou) (rY := rY) (kd := kd) (vl := vl) (st := st) (aO := aO) (aV := aV) (cY := cY) (b := b) hF hl hzc (by omega) hrbY 8 0 C ly (by omega) (by omega)
      rw [Nat.sub_zero] at a3
      have hadd := lo_add (g := 0) hz g1 (by omega) (by omega : b < 16) (g3 b (by omega) (by omega)) (by omega) (fun q => absurd q (by omega)) a1 (fun o ho => by have := a2 o (by omega) ho; rw [Nat.sub_zero] at this; exact this) (fun q => absurd q (by omega))
      obtain ⟨C', ba', ly', b1, b2, b3⟩ := ih (b + 1) (C + z b + 0) (upd ba b (nI C)) ly1 (by omega) (by omega) ⟨hadd, by omega, fun c q1 q2 => by rw [pk_un (by omega)]; exact g3 c (by omega) q2, fun c q1 q2 => by
        by_cases e : c = b
        · rw [e, pk_us]; exact na_ne1 (by omega)
        · rw [pk_un e]; exact g4 c (by omega) q2, fun c q1 q2 => by
        by_cases e : c = b
        · rw [e]; exact hR
        · rw [pk_un e] at q2; exact g5 c q1 q2⟩
      refine ⟨C', ba', ly', b1, fun post f hf hp => ?_, fun post f hf hp => ?_⟩
      · obtain ⟨f, rfl⟩ := na_fu hf
        exact pk_le 16 b (fun h => absurd h (by omega)) (fun _ => ⟨hb16, br_f (by rw [ec]; exact hrb) (lo_x (by omega) (g := 0) rfl (nm_r (nI_1 b) (b2 post f (by omega) hp)))⟩)
      · obtain ⟨f, rfl⟩ := na_fu hf
        exact pk_le 16 b (fun h => absurd h (by omega)) (fun _ => ⟨9, a3 post _ 9 (by omega) (b3 post f (by omega) hp)⟩)
    · obtain ⟨C', ba', ly', b1, b2, b3⟩ := ih (b + 1) C ba ly (by omega) (by omega) ⟨g1, by omega, fun c q1 q2 => g3 c (by omega) q2, fun c q1 q2 => by
        by_cases e : c = b
        · rw [e] at q2; exact absurd q2 hR
        · exact g4 c (by omega) q2, g5⟩
      refine ⟨C', ba', ly', b1, fun post f hf hp => ?_, fun post f hf hp => ?_⟩
      · obtain ⟨f, rfl⟩ := na_fu hf
        exact pk_le 16 b (fun h => absurd h (by omega)) (fun _ => ⟨hb16, br_t (by rw [ec]; exact Decidable.byContradiction (fun q => hR ((hr b (by omega)).mp q))) (nm_r (nI_1 b) (b2 post f (by omega) hp))⟩)
      · obtain ⟨f, rfl⟩ := na_fu hf
        exact pk_le 16 b (fun h => absurd h (by omega)) (fun _ => ⟨9, lo_y146n (by omega) (Decidable.byContradiction (fun q => hR ((hrY b (by omega)).mp q))) (b3 post f (by omega) hp) 8 0 9 (by omega) (by omega)⟩)
/-! X's bases are cleared -/
theorem lo_x2 : ∀ (k i : Nat) (ba : Nat → Int32), i + k = 16 → (∀ b, b < i → ba b = -1) → ∃ ba', (∀ b, b < 16 → ba' b = -1) ∧
    ∀ (post : SX → Prop) (f : Nat), k < f → (∃ n28, wX_layOut_28 post n28 0 0 6 7 (nI mM) (nI mS) (nI mI) (nI mc) (nI sc) L (nI lc) qc (nI 1) (na_v ar) (na_v bd) (na_v bv) (na_v mo) (na_v z) (na_v fo) fa fn (na_v od) po wn rt qu ba' pa mO mA st ct aO aA oC ou) → wX_layOut_2 post 0 6 7 (nI mM) (nI mS) (nI mI) (nI mc) (nI sc) L (nI lc) qc cc f (nI i) (na_v ar) (na_v bd) (na_v bv) (na_v mo) (na_v z) (na_v fo) fa fn (na_v od) po wn rt qu ba pa mO mA st ct aO aA oC ou := by
  intro k
  induction k with
  | zero =>
    intro i ba hi h
    refine ⟨ba, fun j hj => h j (by omega), fun post f hf hp => ?_⟩
    obtain ⟨f, rfl⟩ := na_fu hf
    exact pk_le 16 i (fun _ => hp) (fun h => absurd h (by omega))
  | succ k ih =>
    intro i ba hi h
    obtain ⟨ba', h1, h2⟩ := ih (i + 1) (upd ba i (-1)) (by omega) (fun j hj => by
      by_cases q : j = i
      · rw [q, pk_us]
      · rw [pk_un q]; exact h j (by omega))
    refine ⟨ba', h1, fun post f hf hp => ?_⟩
    obtain ⟨f, rfl⟩ := na_fu hf
    exact pk_le 16 i (fun h => absurd h (by omega)) (fun _ => ⟨vp_in_nI (by omega) (by decide), nm_r (na_uc (by omega)) (nm_r (nI_1 i) (h2 post f (by omega) hp))⟩)
theorem lo_al (hF : fd_ok mM mS mI mc sc ar bd bv mo z y fo nN od fa fn) (hl : lc ≤ 8) (hd : ∀ i j, i < lc → j < lc → od i = od j → i = j) (hzc : ∀ n, n < 8 → z (8 + n) = wi_cm bd bv od n lc) {R : Nat → Prop} (hr : ∀ b, b < 16 → (rt b ≠ 0 ↔ R b)) (hrY : ∀ b, b < 16 → (rY b ≠ 0 ↔ R b)) (hrl : ∀ b, R b → re_ld lc sc mo od b) :
    ∃ (C : Nat) (ba' ly' : Nat → Int32), lo_ok z C ba' ly' ∧ C ≤ 137 ∧ (∀ b, b < 16 → R b → ba' b ≠ -1) ∧ (∀ b, b < 16 → ba' b ≠ -1 → R b) ∧
      (∀ (post : SX → Prop), post (0, 6, 7, nI mM, nI mS, nI mI, nI mc, nI sc, L, nI lc, qc, nI C, na_v ar, na_v bd, na_v bv, na_v mo, na_v z, na_v fo, fa, fn, na_v od, po, wn, rt, qu, ba', pa, mO, mA, st, ct, aO, aA, oC, ou) → wpX_layOut post (0, 6, 7, nI mM, nI mS, nI mI, nI mc, nI sc, L, nI lc, qc, cc, na_v ar, na_v bd, na_v bv, na_v mo, na_v z, na_v fo, fa, fn, na_v od, po, wn, rt, qu, ba, pa, mO, mA, st, ct, aO, aA, oC, ou)) ∧ (∀ (post : SY → Prop), post (nI mM, nI mS, nI mI, nI mc, nI sc, L, nI lc, nI C, na_v ar, na_v mo, na_v y, na_v fo, na_v nN, fa, na_v bd, na_v bv, na_v od, ly', rY, kd, vl, ou, st, aO, aV, cY, oC) → wpY_layOut post (nI mM, nI mS, nI mI, nI mc, nI sc, L, nI lc, cl, na_v ar, na_v mo, na_v y, na_v fo, na_v nN, fa, na_v bd, na_v bv, na_v od, ly, rY, kd, vl, ou, st, aO, aV, cY, oC)) := by
  obtain ⟨ba0, z1, z2⟩ := lo_x2 (mM := mM) (mS := mS) (mI := mI) (mc := mc) (sc := sc) (lc := lc) (ar := ar) (bd := bd) (bv := bv) (mo := mo) (z := z) (fo := fo) (od := od) (L := L) (qc := qc) (cc := cc) (fa := fa) (fn := fn) (po := po) (wn := wn) (rt := rt) (qu := qu) (pa := pa) (mO := mO) (mA := mA) (st := st) (ct := ct) (aO := aO) (aA := aA) (oC := oC) (ou := ou) 16 0 ba (by omega) (fun b hb => absurd hb (by omega))
  have h0 : lo_i R lc sc mo z od 0 0 1 ba0 (upd ly 0 (-1)) := ⟨⟨by omega, pk_us, fun b hb => Or.inl (z1 b hb), fun a ha => Or.inl (by rw [show a = 0 from by omega]; exact pk_us)⟩, by omega, fun b hb q => absurd (z1 b hb) q, fun b j _ _ _ _ q => absurd q (by omega)⟩
  obtain ⟨C1, ba1, ly1, a1, a2, a3⟩ := lo_ou (mM := mM) (mS := mS) (mI := mI) (mc := mc) (sc := sc) (lc := lc) (ar := ar) (bd := bd) (bv := bv) (mo := mo) (z := z) (y := y) (fo := fo) (nN := nN) (od := od) (L := L) (qc := qc) (fa := fa) (fn := fn) (po := po) (wn := wn) (rt := rt) (qu := qu) (pa := pa) (mO := mO) (mA := mA) (st := st) (ct := ct) (aO := aO) (aA := aA) (oC := oC) (ou := ou) (rY := rY) (kd := kd) (vl := vl) (aV := aV) (cY := cY) hF hl hd hr hrY lc 0 1 ba0 (upd ly 0 (-1)) (by omega) h0
  have hn8 : lo_n ba1 ≤ 8 := na_cn_le _ 8
  obtain ⟨g1, g2, g3, g4⟩ := a1
  obtain ⟨C2, ba2, ly2, b1, b2, b3⟩ := lo_cm (mM := mM) (mS := mS) (mI := mI) (mc := mc) (sc := sc) (lc := lc) (ar := ar) (bd := bd) (bv := bv) (mo := mo) (z := z) (y := y) (fo := fo) (nN := nN) (od := od) (L := L) (qc := qc) (fa := fa) (fn := fn) (po := po) (wn := wn) (rt := rt) (qu := qu) (pa := pa) (mO := mO) (mA := mA) (st := st) (ct := ct) (aO := aO) (aA := aA) (oC := oC) (ou := ou) (rY := rY) (kd := kd) (vl := vl) (aV := aV) (cY := cY) hF hl hzc hr hrY 8 8 C1 ba1 ly1 (by omega) (by omega)
    ⟨g1, by omega, fun c q1 q2 => Decidable.byContradiction (fun q => by have := (g3 c q2 q).1; omega), fun c q1 q2 => by
      obtain ⟨w1, j, w2, w3⟩ := hrl c q2 q1
      exact g4 c j w1 q2 w2 w3 (by omega), fun c q1 q2 => (g3 c q1 q2).2.1⟩
  obtain ⟨k1, k2, k3, k4, k5⟩ := b1
  refine ⟨C2, ba2, ly2, k1, by omega, k4, k5, fun post hp => ⟨17, z2 post 17 (by omega) ⟨lc + 1, a2 post (lc + 1) (by omega) ⟨9, b2 post 9 (by omega) hp⟩⟩⟩, fun post hp => ?_⟩
  exact nm_r (e' := nI 1) (by decide) (nm_e ⟨lc + 1, a3 post (lc + 1) (by omega) ⟨9, b3 post 9 (by omega) hp⟩⟩)
end
end
section
/-! a cell's contents after a link: pure -/
def fi_k (fo : Nat → Nat) (p : Nat) : Nat := if p < 64 then fo p else 0
def fi_v (bd bv mo fo nN : Nat → Nat) (wn fa : Nat → Int32) (p : Nat) : Int32 := if p < 64 then (if fo p < 7 then fa p else if re_t bd bv mo nN wn p = -1 then -1 else re_t bd bv mo nN wn p + fa p) else 0
def fi_w (fo : Nat → Nat) (ba : Nat → Int32) (p : Nat) (v : Int32) : Int32 := if fi_k fo p < 7 then v else if 16 ≤ fi_k fo p then lk_l ba v - nI (lk_a ba p) else lk_l ba v
/-- each relocated cell that is laid out has its target laid out -/
def fi_t (bd bv mo z fo nN : Nat → Nat) (wn fa ba : Nat → Int32) : Prop := ∀ p, p < 64 → lk_pl z ba p → 7 ≤ fo p → re_t bd bv mo nN wn p = -1 ∨ ∃ q t, q < 128 ∧ re_t bd bv mo nN wn p = nI q ∧ nI q + fa p = nI t ∧ lk_pl z ba t
theorem fi_rt {z : Nat → Nat} {q : Nat} {a : Int32} (hq : q < 128) (hz : z (q / 8) ≤ 8) (h : rn_i z q a) : ∃ t, t < 128 ∧ t / 8 = q / 8 ∧ t % 8 < z (t / 8) ∧ nI q + a = nI t := by
  obtain ⟨h1, h2⟩ := h
  obtain ⟨o, ho⟩ : ∃ o : Nat, ((q % 8 : Nat) : Int) + a.toInt = o := ⟨(((q % 8 : Nat) : Int) + a.toInt).toNat, by omega⟩
  have e8 : (8 * (q / 8) + o) / 8 = q / 8 := by omega
  refine ⟨8 * (q / 8) + o, by omega, e8, by rw [e8]; omega, ?_⟩
  apply Int32.toInt_inj.mp
  rw [Jvm.Kit.i32_add (by rw [nI_toInt (by omega)]; omega) (by rw [nI_toInt (by omega)]; omega), nI_toInt (by omega), nI_toInt (by omega)]
  omega
theorem fi_mc {bd bv mo z fo nN : Nat → Nat} {wn fa ba : Nat → Int32} {p : Nat} (hop : ∀ p, fd_op (fo p)) (ht : fi_t bd bv mo z fo nN wn fa ba) (hp : lk_pl z ba p) :
    ∀ m, m < 2 → mm_c z ba m p (nI (fi_k fo p)) (if m = 1 then fi_v bd bv mo fo nN wn fa p else fi_w fo ba p (fi_v bd bv mo fo nN wn fa p)) (nI (fi_k fo p)) (fi_v bd bv mo fo nN wn fa p) := by
  intro m hm
  have p1 := hp.1
  refine ⟨fi_k fo p, rfl, rfl, ?_, fun h => ?_, fun h => ?_, fun h => ⟨?_, ?_⟩⟩
  · unfold fi_k; split
    · exact hop p
    · exact Or.inl (by decide)
  · unfold fi_k; rw [if_neg (by omega)]; exact Or.inl rfl
  · split
    · rfl
    · unfold fi_w; rw [if_pos h]
  · have hp64 : p < 64 := Decidable.byContradiction (fun q => by unfold fi_k at h; rw [if_neg q] at h; omega)
    unfold fi_k at h
    rw [if_pos hp64] at h
    unfold fi_v
    rw [if_pos hp64, if_neg (by omega)]
    rcases ht p hp64 hp h with e | ⟨q, t, hq, e1, e2, e3⟩
    · rw [if_pos e]; exact Or.inl rfl
    · rw [e1, if_neg (na_ne1 (by omega)), e2]; exact Or.inr ⟨t, e3, rfl⟩
  · have h2 : m = 0 ∨ m = 1 := by omega
    rcases h2 with rfl | rfl
    · rw [if_neg (by decide)]
      unfold fi_w
      rw [if_neg (by omega)]
      have e : ∀ v, lk_mp ba 0 v = lk_l ba v := fun v => if_neg (by decide)
      rw [e]
      by_cases g : 16 ≤ fi_k fo p
      · rw [if_pos g, if_pos ⟨rfl, g⟩]
      · rw [if_neg g, if_neg (fun q => g q.2)]
    · rw [if_pos rfl, if_neg (fun q => absurd q.1 (by decide))]
      exact (if_pos rfl).symm
/-- the memories while they are filled: places below i are in -/
def fi_i (bd bv mo z fo nN : Nat → Nat) (wn fa ba : Nat → Int32) (i : Nat) (pa mO mA : Nat → Int32) : Prop :=
  (∀ a, a < 128 → (∀ p, p < i → lk_pl z ba p → lk_a ba p ≠ a) → pa a = -1 ∧ mO a = 6 ∧ mA a = 0) ∧
  (∀ p, p < i → lk_pl z ba p → pa (lk_a ba p) = nI p ∧ ∀ m, m < 2 → mO (lk_ix ba m p) = nI (fi_k fo p) ∧ mA (lk_ix ba m p) = (if m = 1 then fi_v bd bv mo fo nN wn fa p else fi_w fo ba p (fi_v bd bv mo fo nN wn fa p)))
theorem fi_up {bd bv mo z fo nN : Nat → Nat} {wn fa ba ly pa mO mA : Nat → Int32} {C i : Nat} (hC : C ≤ 128) (hlo : lo_ok z C ba ly) (h : fi_i bd bv mo z fo nN wn fa ba i pa mO mA) (hi : lk_pl z ba i) :
    fi_i bd bv mo z fo nN wn fa ba (i + 1) (upd pa (lk_a ba i) (nI i)) (upd (upd mO (lk_a ba i) (nI (fi_k fo i))) (128 + i) (nI (fi_k fo i)))
      (upd (upd mA (lk_a ba i) (fi_w fo ba i (fi_v bd bv mo fo nN wn fa i))) (128 + i) (fi_v bd bv mo fo nN wn fa i)) := by
  obtain ⟨h1, h2⟩ := h
  have i1 := hi.1
  have l1 := (lo_pl (by omega) hlo hi).2.1
  refine ⟨fun a ha hn => ?_, fun p hp hpl => ?_⟩
  · have hne : a ≠ lk_a ba i := fun q => hn i (by omega) hi q.symm
    rw [pk_un hne, pk_un (by omega), pk_un hne, pk_un (by omega), pk_un hne]
    exact h1 a ha (fun p hp hpl => hn p (by omega) hpl)
  · have p1 := hpl.1
    by_cases e : p = i
    · subst e
      refine ⟨pk_us, fun m hm => ?_⟩
      have hm2 : m = 0 ∨ m = 1 := by omega
      rcases hm2 with rfl | rfl
      · have ei : lk_ix ba 0 p = lk_a ba p := if_neg (by decide)
        rw [ei, pk_un (by omega), pk_us, pk_un (by omega), pk_us, if_neg (by decide)]
        exact ⟨rfl, rfl⟩
      · have ei : lk_ix ba 1 p = 128 + p := if_pos rfl
        rw [ei, pk_us, pk_us, if_pos rfl]
        exact ⟨rfl, rfl⟩
    · obtain ⟨g1, g2⟩ := h2 p (by omega) hpl
      have hne : lk_a ba p ≠ lk_a ba i := fun q => e (lo_inj (by omega) hlo hpl hi q)
      refine ⟨by rw [pk_un hne]; exact g1, fun m hm => ?_⟩
      have hn0 : lk_ix ba m p ≠ lk_a ba i := by
        have := sp_ix hC hlo hm (by decide : 0 < 2) hpl hi (fun q => e q.2)
        exact this
      have hn1 : lk_ix ba m p ≠ 128 + i := by
        have := sp_ix hC hlo hm (by decide : 1 < 2) hpl hi (fun q => e q.2)
        exact this
      rw [pk_un hn1, pk_un hn0, pk_un hn1, pk_un hn0]
      exact g2 m hm
theorem fi_sk {bd bv mo z fo nN : Nat → Nat} {wn fa ba pa mO mA : Nat → Int32} {i : Nat} (h : fi_i bd bv mo z fo nN wn fa ba i pa mO mA) (hi : ¬ lk_pl z ba i) : fi_i bd bv mo z fo nN wn fa ba (i + 1) pa mO mA := by
  obtain ⟨h1, h2⟩ := h
  refine ⟨fun a ha hn => h1 a ha (fun p hp hpl => hn p (by omega) hpl), fun p hp hpl => ?_⟩
  by_cases e : p = i
  · subst e; exact absurd hpl hi
  · exact h2 p (by omega) hpl
section
variable {mM mS mI mc sc lc : Nat} {ar bd bv mo z y fo nN od : Nat → Nat} {L qc cc cl : Int32} {fa fn po wn rt qu ba pa mO mA st ct aO aA oC ou ly rY kd vl aV cY : Nat → Int32}
variable {C : Nat}
/-! X: one cell -/
theorem fi_112 {post : SX → Prop} {p a k : Nat} {v w : Int32} (hp : p < 128) (ha : a < 128) (h : post (0, 6, 7, nI mM, nI mS, nI mI, nI mc, nI sc, L, nI lc, qc, cc, na_v ar, na_v bd, na_v bv, na_v mo, na_v z, na_v fo, fa, fn, na_v od, po, wn, rt, qu, ba, upd pa a (nI p), upd (upd mO a (nI k)) (128 + p) (nI k), upd (upd mA a w) (128 + p) v, st, ct, aO, aA, oC, ou)) : wX_fillCell_112 post (nI p) (nI a) (nI k) v w 0 6 7 (nI mM) (nI mS) (nI mI) (nI mc) (nI sc) L (nI lc) qc cc (na_v ar) (na_v bd) (na_v bv) (na_v mo) (na_v z) (na_v fo) fa fn (na_v od) po wn rt qu ba pa mO mA st ct aO aA oC ou :=
  ⟨vp_in_nI ha (by decide), nm_r (na_uc (by omega)) ⟨vp_in_nI (by omega) (by decide), nm_r (na_uc (by omega)) ⟨vp_in_nI (by omega) (by decide), nm_r (na_uc (by omega)) ⟨na_in (na_a128 p) (by omega) (by decide), nm_r (e' := upd (upd mO a (nI k)) (128 + p) (nI k)) (by rw [na_a128, nI_clamp (by omega)]) ⟨na_in (na_a128 p) (by omega) (by decide), nm_r (e' := upd (upd mA a w) (128 + p) v) (by rw [na_a128, nI_clamp (by omega)]) h⟩⟩⟩⟩⟩
theorem fi_98 {post : SX → Prop} {p a k : Nat} {v w : Int32} (hk : k ≤ 22) (h : wX_fillCell_112 post (nI p) (nI a) (nI k) v (if 16 ≤ k then w - nI a else w) 0 6 7 (nI mM) (nI mS) (nI mI) (nI mc) (nI sc) L (nI lc) qc cc (na_v ar) (na_v bd) (na_v bv) (na_v mo) (na_v z) (na_v fo) fa fn (na_v od) po wn rt qu ba pa mO mA st ct aO aA oC ou) : wX_fillCell_98 post (nI p) (nI a) (nI k) v w 0 6 7 (nI mM) (nI mS) (nI mI) (nI mc) (nI sc) L (nI lc) qc cc (na_v ar) (na_v bd) (na_v bv) (na_v mo) (na_v z) (na_v fo) fa fn (na_v od) po wn rt qu ba pa mO mA st ct aO aA oC ou := by
  refine pk_lt k 16 (fun g => ?_) (fun g => nm_e ?_)
  · rw [if_neg (by omega)] at h; exact h
  · rw [if_pos g] at h; exact h
theorem fi_x {post : SX → Prop} {p : Nat} (hF : fd_ok mM mS mI mc sc ar bd bv mo z y fo nN od fa fn) (hC : C ≤ 128) (hlo : lo_ok z C ba ly) (ht : fi_t bd bv mo z fo nN wn fa ba) (hpl : lk_pl z ba p)
    (h : post (0, 6, 7, nI mM, nI mS, nI mI, nI mc, nI sc, L, nI lc, qc, cc, na_v ar, na_v bd, na_v bv, na_v mo, na_v z, na_v fo, fa, fn, na_v od, po, wn, rt, qu, ba, upd pa (lk_a ba p) (nI p), upd (upd mO (lk_a ba p) (nI (fi_k fo p))) (128 + p) (nI (fi_k fo p)), upd (upd mA (lk_a ba p) (fi_w fo ba p (fi_v bd bv mo fo nN wn fa p))) (128 + p) (fi_v bd bv mo fo nN wn fa p), st, ct, aO, aA, oC, ou)) : wpX_fillCell post (0, 6, 7, nI mM, nI mS, nI mI, nI mc, nI sc, L, nI lc, qc, cc, na_v ar, na_v bd, na_v bv, na_v mo, na_v z, na_v fo, fa, fn, na_v od, po, wn, rt, qu, ba, pa, mO, mA, st, ct, aO, aA, oC, ou) (nI p) (nI (lk_a ba p)) := by
  have hF' := hF
  obtain ⟨g1, g2, g3, g4, g5, g6, g7, g8, g9, g10, g11, g12, g13, g14, g15, g16, g17⟩ := hF
  have p1 := hpl.1
  have p3 := hpl.2.2
  have l1 := (lo_pl (by omega) hlo hpl).2.1
  have hop := g12 p
  have hn8 := g14 p
  by_cases h64 : p < 64
  · have ek : fi_k fo p = fo p := if_pos h64
    have hk : fo p ≤ 22 := by unfold fd_op at hop; omega
    have q64 : ¬ (64 : Int32) ≤ nI p := nI_ge (b := 64) h64 (by decide)
    have hin : vp_in (nI p) 64 := vp_in_nI h64 (by decide)
    have efn := g16 p h64 p3
    refine br_f q64 ⟨hin, br_f q64 ⟨hin, br_f q64 ⟨hin, ?_⟩⟩⟩
    rw [na_r (f := fo) (by omega), nI_clamp (by omega), efn]
    by_cases h7 : fo p < 7
    · have ev : fi_v bd bv mo fo nN wn fa p = fa p := by unfold fi_v; rw [if_pos h64, if_pos h7]
      have ew : ∀ v, fi_w fo ba p v = v := fun v => by unfold fi_w; rw [if_pos (by omega)]
      rw [ev, ew, ek] at h
      rw [if_pos h7]
      exact br_t na_m1lt (fi_112 p1 (by omega) h)
    · have ew : ∀ v, fi_w fo ba p v = if 16 ≤ fo p then lk_l ba v - nI (lk_a ba p) else lk_l ba v := fun v => by unfold fi_w; rw [if_neg (by omega), ek]
      rw [if_neg h7]
      refine br_f (nI_pos (by omega)) (re_xc h64 hF' (by omega) ?_)
      rcases ht p h64 hpl (by omega) with e | ⟨q, t, hq, e1, e2, e3⟩
      · have ev : fi_v bd bv mo fo nN wn fa p = -1 := by unfold fi_v; rw [if_pos h64, if_neg h7, if_pos e]
        have e0 : lk_l ba (-1) = 0 := if_pos rfl
        rw [ev, ew, ek, e0] at h
        rw [e]
        exact br_t rfl (br_t rfl (fi_98 hk (fi_112 p1 (by omega) h)))
      · have hne : ¬ nI q = -1 := na_ne1 (by omega)
        have ev : fi_v bd bv mo fo nN wn fa p = nI t := by unfold fi_v; rw [if_pos h64, if_neg h7, e1, if_neg hne, e2]
        rw [ev, ew, ek, ad_l e3.1] at h
        rw [e1]
        refine br_f hne ⟨hin, br_f hne ?_⟩
        rw [e2]
        exact ad_x1 e3 g9 (fi_98 hk (fi_112 p1 (by omega) h))
  · have ek : fi_k fo p = 0 := if_neg h64
    have ev : fi_v bd bv mo fo nN wn fa p = 0 := if_neg h64
    have ew : fi_w fo ba p 0 = 0 := by unfold fi_w; rw [ek, if_pos (by decide)]
    have q64 : (64 : Int32) ≤ nI p := nI_le (a := 64) (by omega) (by omega)
    rw [ev, ew, ek] at h
    exact br_t q64 (br_t q64 (br_t q64 (fi_112 (k := 0) p1 (by omega) h)))
theorem fi_x39 (hF : fd_ok mM mS mI mc sc ar bd bv mo z y fo nN od fa fn) (hC : C ≤ 128) (hlo : lo_ok z C ba ly) (ht : fi_t bd bv mo z fo nN wn fa ba) :
    ∀ (k i : Nat) (pa mO mA : Nat → Int32), i + k = 128 → fi_i bd bv mo z fo nN wn fa ba i pa mO mA → ∃ (pa' mO' mA' : Nat → Int32), fi_i bd bv mo z fo nN wn fa ba 128 pa' mO' mA' ∧
      ∀ (post : SX → Prop) (f : Nat), k < f → post (0, 6, 7, nI mM, nI mS, nI mI, nI mc, nI sc, L, nI lc, qc, cc, na_v ar, na_v bd, na_v bv, na_v mo, na_v z, na_v fo, fa, fn, na_v od, po, wn, rt, qu, ba, pa', mO', mA', st, ct, aO, aA, oC, ou) → wX_fillMemories_39 post f (nI i) 0 6 7 (nI mM) (nI mS) (nI mI) (nI mc) (nI sc) L (nI lc) qc cc (na_v ar) (na_v bd) (na_v bv) (na_v mo) (na_v z) (na_v fo) fa fn (na_v od) po wn rt qu ba pa mO mA st ct aO aA oC ou := by
  have hz : ∀ i, z i ≤ 8 := hF.2.2.2.2.2.2.2.2.1
  intro k
  induction k with
  | zero =>
    intro i pa mO mA hi h
    obtain rfl : i = 128 := by omega
    refine ⟨pa, mO, mA, h, fun post f hf hp => ?_⟩
    obtain ⟨f, rfl⟩ := na_fu hf
    exact pk_le 128 128 (fun _ => hp) (fun h => absurd h (by omega))
  | succ k ih =>
    intro i pa mO mA hi h
    by_cases hpl : lk_pl z ba i
    · have l1 := (lo_pl (by omega) hlo hpl).2.1
      obtain ⟨pa', mO', mA', a1, a2⟩ := ih (i + 1) _ _ _ (by omega) (fi_up hC hlo h hpl)
      refine ⟨pa', mO', mA', a1, fun post f hf hp => ?_⟩
      obtain ⟨f, rfl⟩ := na_fu hf
      exact pk_le 128 i (fun h => absurd h (by omega)) (fun _ => ad_x1 hpl hz (br_f (nI_pos (by omega)) (fi_x hF hC hlo ht hpl (nm_r (nI_1 i) (a2 post f (by omega) hp)))))
    · obtain ⟨pa', mO', mA', a1, a2⟩ := ih (i + 1) pa mO mA (by omega) (fi_sk h hpl)
      refine ⟨pa', mO', mA', a1, fun post f hf hp => ?_⟩
      obtain ⟨f, rfl⟩ := na_fu hf
      exact pk_le 128 i (fun h => absurd h (by omega)) (fun _ => ad_x0 hpl hz (by omega) (br_t na_m1lt (nm_r (nI_1 i) (a2 post f (by omega) hp))))
theorem fi_x2 : ∀ (k i : Nat) (pa mO mA : Nat → Int32), i + k = 128 → (∀ a, a < i → pa a = -1 ∧ mO a = 6 ∧ mA a = 0) → ∃ (pa' mO' mA' : Nat → Int32), (∀ a, a < 128 → pa' a = -1 ∧ mO' a = 6 ∧ mA' a = 0) ∧
    ∀ (post : SX → Prop) (f : Nat), k < f → (∃ n39, wX_fillMemories_39 post n39 0 0 6 7 (nI mM) (nI mS) (nI mI) (nI mc) (nI sc) L (nI lc) qc cc (na_v ar) (na_v bd) (na_v bv) (na_v mo) (na_v z) (na_v fo) fa fn (na_v od) po wn rt qu ba pa' mO' mA' st ct aO aA oC ou) → wX_fillMemories_2 post 0 6 7 (nI mM) (nI mS) (nI mI) (nI mc) (nI sc) L (nI lc) qc cc f (nI i) (na_v ar) (na_v bd) (na_v bv) (na_v mo) (na_v z) (na_v fo) fa fn (na_v od) po wn rt qu ba pa mO mA st ct aO aA oC ou := by
  intro k
  induction k with
  | zero =>
    intro i pa mO mA hi h
    refine ⟨pa, mO, mA, fun j hj => h j (by omega), fun post f hf hp => ?_⟩
    obtain ⟨f, rfl⟩ := na_fu hf
    exact pk_le 128 i (fun _ => hp) (fun h => absurd h (by omega))
  | succ k ih =>
    intro i pa mO mA hi h
    obtain ⟨pa', mO', mA', h1, h2⟩ := ih (i + 1) (upd pa i (-1)) (upd mO i 6) (upd mA i 0) (by omega) (fun j hj => by
      by_cases q : j = i
      · rw [q, pk_us, pk_us, pk_us]; exact ⟨rfl, rfl, rfl⟩
      · rw [pk_un q, pk_un q, pk_un q]; exact h j (by omega))
    refine ⟨pa', mO', mA', h1, fun post f hf hp => ?_⟩
    obtain ⟨f, rfl⟩ := na_fu hf
    exact pk_le 128 i (fun h => absurd h (by omega)) (fun _ => ⟨vp_in_nI (by omega) (by decide), nm_r (na_uc (by omega)) ⟨vp_in_nI (by omega) (by decide), nm_r (na_uc (by omega)) ⟨vp_in_nI (by omega) (by decide), nm_r (na_uc (by omega)) (nm_r (nI_1 i) (h2 post f (by omega) hp))⟩⟩⟩)
theorem fi_xa (hF : fd_ok mM mS mI mc sc ar bd bv mo z y fo nN od fa fn) (hC : C ≤ 128) (hlo : lo_ok z C ba ly) (ht : fi_t bd bv mo z fo nN wn fa ba) :
    ∃ (pa' mO' mA' : Nat → Int32), fi_i bd bv mo z fo nN wn fa ba 128 pa' mO' mA' ∧ ∀ (post : SX → Prop), post (0, 6, 7, nI mM, nI mS, nI mI, nI mc, nI sc, L, nI lc, qc, cc, na_v ar, na_v bd, na_v bv, na_v mo, na_v z, na_v fo, fa, fn, na_v od, po, wn, rt, qu, ba, pa', mO', mA', st, ct, aO, aA, oC, ou) → wpX_fillMemories post (0, 6, 7, nI mM, nI mS, nI mI, nI mc, nI sc, L, nI lc, qc, cc, na_v ar, na_v bd, na_v bv, na_v mo, na_v z, na_v fo, fa, fn, na_v od, po, wn, rt, qu, ba, pa, mO, mA, st, ct, aO, aA, oC, ou) := by
  obtain ⟨pa1, mO1, mA1, a1, a2⟩ := fi_x2 (mM := mM) (mS := mS) (mI := mI) (mc := mc) (sc := sc) (lc := lc) (ar := ar) (bd := bd) (bv := bv) (mo := mo) (z := z) (fo := fo) (od := od) (L := L) (qc := qc) (cc := cc) (fa := fa) (fn := fn) (po := po) (wn := wn) (rt := rt) (qu := qu) (ba := ba) (st := st) (ct := ct) (aO := aO) (aA := aA) (oC := oC) (ou := ou) 128 0 pa mO mA (by omega) (fun a ha => absurd ha (by omega))
  obtain ⟨pa', mO', mA', b1, b2⟩ := fi_x39 (mM := mM) (mS := mS) (mI := mI) (mc := mc) (sc := sc) (lc := lc) (ar := ar) (bd := bd) (bv := bv) (mo := mo) (z := z) (fo := fo) (od := od) (L := L) (qc := qc) (cc := cc) (fa := fa) (fn := fn) (po := po) (wn := wn) (rt := rt) (qu := qu) (ba := ba) (st := st) (ct := ct) (aO := aO) (aA := aA) (oC := oC) (ou := ou) hF hC hlo ht 128 0 pa1 mO1 mA1 (by omega) ⟨fun a ha _ => a1 a ha, fun p hp => absurd hp (by omega)⟩
  exact ⟨pa', mO', mA', b1, fun post hp => ⟨129, a2 post 129 (by omega) ⟨129, b2 post 129 (by omega) hp⟩⟩⟩
end
end
section
section
variable {mM mS mI mc sc lc : Nat} {ar bd bv mo z y fo nN od : Nat → Nat} {L qc cc cl : Int32} {fa fn po wn rt qu ba pa mO mA st ct aO aA oC ou ly rY kd vl aV cY : Nat → Int32}
variable {s : Nat}
/-! Y: one cell of the memories -/
theorem fi_ys (hF : fd_ok mM mS mI mc sc ar bd bv mo z y fo nN od fa fn) (hl : lc ≤ 8) (hd : wi_nd bd od lc) (hw : ∀ n, n < 8 → wn n = wi_wn bd bv od lc n) {i : Nat} (hi : i < 256) :
    ∃ vl', vl' i = fi_v bd bv mo fo nN wn fa (i % 128) ∧ (∀ j, j ≠ i → vl' j = vl j) ∧
      ∀ (post : SY → Prop) (f : Nat), wY_setUp_2 post (nI s) (nI mM) (nI mS) (nI mI) (nI mc) (nI sc) L (nI lc) cl f (nI (i + 1)) (na_v ar) (na_v mo) (na_v y) (na_v fo) (na_v nN) fa (na_v bd) (na_v bv) (na_v od) ly rY (upd kd i (nI (fi_k fo (i % 128)))) vl' ou st aO aV cY oC → wY_setUp_2 post (nI s) (nI mM) (nI mS) (nI mI) (nI mc) (nI sc) L (nI lc) cl (f + 1) (nI i) (na_v ar) (na_v mo) (na_v y) (na_v fo) (na_v nN) fa (na_v bd) (na_v bv) (na_v od) ly rY kd vl ou st aO aV cY oC := by
  have hF' := hF
  obtain ⟨g1, g2, g3, g4, g5, g6, g7, g8, g9, g10, g11, g12, g13, g14, g15, g16, g17⟩ := hF
  have er : nI i - nI i / 128 * 128 = nI (i % 128) := pk_rem (d := 128) (by omega) (by decide) (by decide)
  have q256 : ¬ (256 : Int32) ≤ nI i := nI_ge (b := 256) hi (by decide)
  have hin : vp_in (nI i) 256 := vp_in_nI hi (by decide)
  have hm : i % 128 < 128 := Nat.mod_lt _ (by decide)
  generalize i % 128 = p at *
  have hop := g12 p
  by_cases h64 : p < 64
  · have ek : fi_k fo p = fo p := if_pos h64
    have hk : fo p ≤ 22 := by unfold fd_op at hop; omega
    have q64 : ¬ (64 : Int32) ≤ nI p := nI_ge (b := 64) h64 (by decide)
    have hp64 : vp_in (nI p) 64 := vp_in_nI h64 (by decide)
    have hp8 : vp_in (nI p / 8) 8 := na_in (na_d8 (by omega)) (by omega) (by decide)
    have e1 : upd kd (nI i).toNatClampNeg (na_v fo (nI p).toNatClampNeg) = upd kd i (nI (fi_k fo p)) := by rw [nI_clamp (n := i) (by omega), na_r (by omega), ek]
    have e2 : upd vl (nI i).toNatClampNeg (fa (nI p).toNatClampNeg) = upd vl i (fa p) := by rw [nI_clamp (n := i) (by omega), nI_clamp (n := p) (by omega)]
    have e3 : upd kd i (nI (fi_k fo p)) (nI i).toNatClampNeg = nI (fo p) := by rw [nI_clamp (by omega), pk_us, ek]
    by_cases h7 : fo p < 7
    · refine ⟨upd vl i (fa p), by rw [pk_us]; unfold fi_v; rw [if_pos h64, if_pos h7], fun j hj => pk_un hj, fun post f h => ?_⟩
      exact br_f q256 ⟨by decide, nm_r er (br_f q64 ⟨hp64, ⟨hin, nm_r e1 (br_f q64 ⟨hp64, ⟨hin, nm_r e2 ⟨hin, pk_lt (fo p) 7 (fun _ => nm_r (nI_1 i) h) (fun q => absurd h7 (by omega)) e3⟩⟩⟩)⟩⟩)⟩
    · rcases re_tc (lc := lc) hF' hw p with ht | ⟨q, hq, ht⟩
      · refine ⟨upd (upd vl i (fa p)) i (-1), by rw [pk_us]; unfold fi_v; rw [if_pos h64, if_neg h7, if_pos ht], fun j hj => by rw [pk_un hj, pk_un hj], fun post f h => ?_⟩
        refine br_f q256 ⟨by decide, nm_r er (br_f q64 ⟨hp64, ⟨hin, nm_r e1 (br_f q64 ⟨hp64, ⟨hin, nm_r e2 ⟨hin, pk_lt (fo p) 7 (fun q => absurd q h7) (fun _ => ⟨by decide, hp8, hp64, re_ym h64 hF' hl hd hw ?_⟩) e3⟩⟩⟩)⟩⟩)⟩
        rw [ht]
        exact br_t rfl ⟨hin, nm_r (na_uc (by omega)) (nm_r (nI_1 i) h)⟩
      · have hne : ¬ nI q = -1 := na_ne1 (by omega)
        refine ⟨upd (upd vl i (fa p)) i (nI q + fa p), by rw [pk_us]; unfold fi_v; rw [if_pos h64, if_neg h7, ht, if_neg hne], fun j hj => by rw [pk_un hj, pk_un hj], fun post f h => ?_⟩
        refine br_f q256 ⟨by decide, nm_r er (br_f q64 ⟨hp64, ⟨hin, nm_r e1 (br_f q64 ⟨hp64, ⟨hin, nm_r e2 ⟨hin, pk_lt (fo p) 7 (fun q => absurd q h7) (fun _ => ⟨by decide, hp8, hp64, re_ym h64 hF' hl hd hw ?_⟩) e3⟩⟩⟩)⟩⟩)⟩
        rw [ht]
        exact br_f hne ⟨hp64, hin, nm_r (e' := upd (upd vl i (fa p)) i (nI q + fa p)) (by rw [nI_clamp (n := i) (by omega), nI_clamp (n := p) (by omega)]) (nm_r (nI_1 i) h)⟩
  · have ek : fi_k fo p = 0 := if_neg h64
    have q64 : (64 : Int32) ≤ nI p := nI_le (a := 64) (by omega) (by omega)
    refine ⟨upd vl i 0, by rw [pk_us]; exact (if_neg h64).symm, fun j hj => pk_un hj, fun post f h => ?_⟩
    exact br_f q256 ⟨by decide, nm_r er (br_t q64 ⟨hin, nm_r (e' := upd kd i (nI (fi_k fo p))) (by rw [nI_clamp (by omega), ek]; rfl) (br_t q64 ⟨hin, nm_r (na_uc (by omega)) ⟨hin, br_t (by rw [nI_clamp (by omega), pk_us, ek]; decide) (nm_r (nI_1 i) h)⟩⟩)⟩)⟩
theorem fi_y2 (hF : fd_ok mM mS mI mc sc ar bd bv mo z y fo nN od fa fn) (hl : lc ≤ 8) (hd : wi_nd bd od lc) (hw : ∀ n, n < 8 → wn n = wi_wn bd bv od lc n) :
    ∀ (k i : Nat) (kd vl : Nat → Int32), i + k = 256 → (∀ q, q < i → kd q = nI (fi_k fo (q % 128)) ∧ vl q = fi_v bd bv mo fo nN wn fa (q % 128)) → ∃ (kd' vl' : Nat → Int32), (∀ q, q < 256 → kd' q = nI (fi_k fo (q % 128)) ∧ vl' q = fi_v bd bv mo fo nN wn fa (q % 128)) ∧
      ∀ (post : SY → Prop), (∃ n124, wY_setUp_124 post (nI s) (nI mM) (nI mS) (nI mI) (nI mc) (nI sc) L (nI lc) cl n124 0 (na_v ar) (na_v mo) (na_v y) (na_v fo) (na_v nN) fa (na_v bd) (na_v bv) (na_v od) ly rY kd' vl' ou st aO aV cY oC) → wY_setUp_2 post (nI s) (nI mM) (nI mS) (nI mI) (nI mc) (nI sc) L (nI lc) cl (k + 1) (nI i) (na_v ar) (na_v mo) (na_v y) (na_v fo) (na_v nN) fa (na_v bd) (na_v bv) (na_v od) ly rY kd vl ou st aO aV cY oC := by
  intro k
  induction k with
  | zero =>
    intro i kd vl hi h
    obtain rfl : i = 256 := by omega
    exact ⟨kd, vl, h, fun post hp => pk_le 256 256 (fun _ => hp) (fun h => absurd h (by omega))⟩
  | succ k ih =>
    intro i kd vl hi h
    obtain ⟨vl1, a1, a2, a3⟩ := fi_ys (mM := mM) (mS := mS) (mI := mI) (mc := mc) (sc := sc) (lc := lc) (ar := ar) (bd := bd) (bv := bv) (mo := mo) (y := y) (fo := fo) (nN := nN) (od := od) (L := L) (cl := cl) (fa := fa) (oC := oC) (ou := ou) (ly := ly) (rY := rY) (kd := kd) (vl := vl) (st := st) (aO := aO) (aV := aV) (cY := cY) (s := s) hF hl hd hw (by omega : i < 256)
    obtain ⟨kd', vl', b1, b2⟩ := ih (i + 1) (upd kd i (nI (fi_k fo (i % 128)))) vl1 (by omega) (fun q hq => by
      by_cases e : q = i
      · rw [e, pk_us]; exact ⟨rfl, a1⟩
      · rw [pk_un e, a2 q e]; exact h q (by omega))
    exact ⟨kd', vl', b1, fun post hp => a3 post (k + 1) (b2 post hp)⟩
theorem fi_y124 {post : SY → Prop} (hp : post (nI mM, nI mS, nI mI, nI mc, nI sc, L, nI lc, cl, na_v ar, na_v mo, na_v y, na_v fo, na_v nN, fa, na_v bd, na_v bv, na_v od, ly, rY, kd, vl, ou, upd (upd st 0 0) 1 0, upd (upd aO 0 0) 1 0, upd (upd aV 0 0) 1 0, upd (upd cY 0 (nI s)) 1 (nI s), upd (upd oC 0 0) 1 0)) : wY_setUp_124 post (nI s) (nI mM) (nI mS) (nI mI) (nI mc) (nI sc) L (nI lc) cl 3 (nI 0) (na_v ar) (na_v mo) (na_v y) (na_v fo) (na_v nN) fa (na_v bd) (na_v bv) (na_v od) ly rY kd vl ou st aO aV cY oC := by
  have h0 : vp_in (nI 0) 2 := vp_in_nI (by decide) (by decide)
  have h1 : vp_in (nI 1) 2 := vp_in_nI (by decide) (by decide)
  refine br_f (by decide) ⟨h0, nm_r (na_uc (by decide)) ⟨h0, nm_r (na_uc (by decide)) ⟨h0, nm_r (na_uc (by decide)) ⟨h0, nm_r (na_uc (by decide)) ⟨h0, nm_r (na_uc (by decide)) (nm_r (nI_1 0) ?_)⟩⟩⟩⟩⟩
  refine br_f (by decide) ⟨h1, nm_r (na_uc (by decide)) ⟨h1, nm_r (na_uc (by decide)) ⟨h1, nm_r (na_uc (by decide)) ⟨h1, nm_r (na_uc (by decide)) ⟨h1, nm_r (na_uc (by decide)) (nm_r (nI_1 1) ?_)⟩⟩⟩⟩⟩
  exact br_t (by decide) hp
theorem fi_ya (hF : fd_ok mM mS mI mc sc ar bd bv mo z y fo nN od fa fn) (hl : lc ≤ 8) (hd : wi_nd bd od lc) (hw : ∀ n, n < 8 → wn n = wi_wn bd bv od lc n) :
    ∃ (kd' vl' : Nat → Int32), (∀ q, q < 256 → kd' q = nI (fi_k fo (q % 128)) ∧ vl' q = fi_v bd bv mo fo nN wn fa (q % 128)) ∧
      ∀ (post : SY → Prop), post (nI mM, nI mS, nI mI, nI mc, nI sc, L, nI lc, cl, na_v ar, na_v mo, na_v y, na_v fo, na_v nN, fa, na_v bd, na_v bv, na_v od, ly, rY, kd', vl', ou, upd (upd st 0 0) 1 0, upd (upd aO 0 0) 1 0, upd (upd aV 0 0) 1 0, upd (upd cY 0 (nI s)) 1 (nI s), upd (upd oC 0 0) 1 0) → wpY_setUp post (nI mM, nI mS, nI mI, nI mc, nI sc, L, nI lc, cl, na_v ar, na_v mo, na_v y, na_v fo, na_v nN, fa, na_v bd, na_v bv, na_v od, ly, rY, kd, vl, ou, st, aO, aV, cY, oC) (nI s) := by
  obtain ⟨kd', vl', b1, b2⟩ := fi_y2 (mM := mM) (mS := mS) (mI := mI) (mc := mc) (sc := sc) (lc := lc) (ar := ar) (bd := bd) (bv := bv) (mo := mo) (y := y) (fo := fo) (nN := nN) (od := od) (L := L) (cl := cl) (fa := fa) (oC := oC) (ou := ou) (ly := ly) (rY := rY) (st := st) (aO := aO) (aV := aV) (cY := cY) (s := s) hF hl hd hw 256 0 kd vl (by omega) (fun q hq => absurd hq (by omega))
  exact ⟨kd', vl', b1, fun post hp => ⟨257, b2 post ⟨3, fi_y124 hp⟩⟩⟩
/-! X: a machine starts -/
theorem fi_sm {post : SX → Prop} {m : Nat} {v : Int32} (hm : m < 2) (hp : post (0, 6, 7, nI mM, nI mS, nI mI, nI mc, nI sc, L, nI lc, qc, cc, na_v ar, na_v bd, na_v bv, na_v mo, na_v z, na_v fo, fa, fn, na_v od, po, wn, rt, qu, ba, pa, mO, mA, upd st m 0, upd ct m v, upd aO m 0, upd aA m 0, upd oC m 0, ou)) : wpX_startMachine post (0, 6, 7, nI mM, nI mS, nI mI, nI mc, nI sc, L, nI lc, qc, cc, na_v ar, na_v bd, na_v bv, na_v mo, na_v z, na_v fo, fa, fn, na_v od, po, wn, rt, qu, ba, pa, mO, mA, st, ct, aO, aA, oC, ou) (nI m) v := by
  have h : vp_in (nI m) 2 := vp_in_nI hm (by decide)
  refine ⟨h, nm_r (na_uc (by omega)) ⟨h, nm_r (na_uc (by omega)) ⟨h, nm_r (na_uc (by omega)) ?_⟩⟩⟩
  exact ⟨h, nm_r (na_uc (by omega)) ⟨h, nm_r (na_uc (by omega)) hp⟩⟩
/-! the end: registers and memories are alike -/
theorem fi_rg {z : Nat → Nat} {C : Nat} {ba ly ct cY aO aA aV oC : Nat → Int32} (hC : C ≤ 128) (hlo : lo_ok z C ba ly) (hs : lk_pl z ba s) :
    rg_ok z ba (upd (upd ct 0 (nI (lk_a ba s))) 1 (nI s)) (upd (upd cY 0 (nI s)) 1 (nI s)) (upd (upd aO 0 0) 1 0) (upd (upd aA 0 0) 1 0) (upd (upd aV 0 0) 1 0) (upd (upd oC 0 0) 1 0) := by
  intro m hm
  have h : m = 0 ∨ m = 1 := by omega
  have n01 : (0 : Nat) ≠ 1 := by decide
  rcases h with rfl | rfl
  · rw [pk_un n01, pk_us, pk_un n01, pk_us, pk_un n01, pk_us, pk_un n01, pk_us, pk_un n01, pk_us, pk_un n01, pk_us]
    exact ⟨⟨Or.inr ⟨s, hs, rfl⟩, ((if_neg (by decide)).trans (ad_l hs.1)).symm⟩, Or.inl ⟨rfl, rfl⟩, 0, by decide, rfl⟩
  · rw [pk_us, pk_us, pk_us, pk_us, pk_us, pk_us]
    exact ⟨⟨Or.inr ⟨s, hs, rfl⟩, (if_pos rfl).symm⟩, Or.inl ⟨rfl, rfl⟩, 0, by decide, rfl⟩
theorem fi_mm {C : Nat} (hop : ∀ p, fd_op (fo p)) (hC : C ≤ 128) (hlo : lo_ok z C ba ly) (ht : fi_t bd bv mo z fo nN wn fa ba) (hx : fi_i bd bv mo z fo nN wn fa ba 128 pa mO mA)
    (hy : ∀ q, q < 256 → kd q = nI (fi_k fo (q % 128)) ∧ vl q = fi_v bd bv mo fo nN wn fa (q % 128)) : mm_ok z C ba ly mO mA kd vl := by
  obtain ⟨h1, h2⟩ := hx
  refine ⟨fun a ha hg => ?_, fun p hp m hm => ?_⟩
  · refine (h1 a ha (fun p _ hpl q => ?_)).2
    obtain ⟨l1, l2, l3, _⟩ := lo_pl (by omega) hlo hpl
    have p1 := hpl.1
    rw [q] at l2 l3
    rcases hg with hg | hg
    · omega
    · rw [hg] at l3; exact na_ne1 (by omega) l3.symm
  · have p1 := hp.1
    obtain ⟨_, g⟩ := h2 p p1 hp
    obtain ⟨e1, e2⟩ := g m hm
    obtain ⟨e3, e4⟩ := hy (128 * m + p) (by omega)
    rw [show (128 * m + p) % 128 = p from by omega] at e3 e4
    rw [e1, e2, e3, e4]
    exact fi_mc hop ht hp m hm
theorem fi_pa {C : Nat} (hz : ∀ i, z i ≤ 8) (hC : C ≤ 128) (hlo : lo_ok z C ba ly) (hx : fi_i bd bv mo z fo nN wn fa ba 128 pa mO mA) : ∀ a, a < 128 → pa a = if a < C then ly a else -1 := by
  obtain ⟨h1, h2⟩ := hx
  intro a ha
  by_cases haC : a < C
  · rw [if_pos haC]
    rcases lo_cs hz (by omega) hlo haC with e | ⟨p, hpl, ep, e⟩
    · rw [e]
      refine (h1 a ha (fun p _ hpl q => ?_)).1
      have l3 := (lo_pl (by omega) hlo hpl).2.2.1
      have p1 := hpl.1
      rw [q, e] at l3
      exact na_ne1 (by omega) l3.symm
    · rw [e, ← ep]; exact (h2 p hpl.1 hpl).1
  · rw [if_neg haC]
    refine (h1 a ha (fun p _ hpl q => ?_)).1
    have l2 := (lo_pl (by omega) hlo hpl).2.1
    omega
end
end
section
section
variable {mM mS mI mc sc lc : Nat} {ar bd bv mo z y fo nN od : Nat → Nat} {L qc cc cl : Int32} {fa fn po wn rt qu ba pa mO mA st ct aO aA oC ou ly rY kd vl aV cY : Nat → Int32}
variable {k e : Nat}
theorem fd_lk {z' od' : Nat → Nat} (hF : fd_ok mM mS mI mc sc ar bd bv mo z y fo nN od fa fn) (h1 : ∀ b, b < 8 → z' b = z b) (h2 : ∀ b, z' b ≤ 8) (h3 : ∀ i, od' i < 8) : fd_ok mM mS mI mc sc ar bd bv mo z' y fo nN od' fa fn := by
  obtain ⟨g1, g2, g3, g4, g5, g6, g7, g8, g9, g10, g11, g12, g13, g14, g15, g16, g17⟩ := hF
  refine ⟨g1, g2, g3, g4, g5, g6, g7, g8, h2, fun i hi => by rw [h1 i hi]; exact g10 i hi, fun s a b => by rw [h1 s b]; exact g11 s a b, g12, fun p hp hq => ?_, g14, g15, fun p hp hq => ?_, h3⟩
  · rw [h1 _ (by omega)] at hq; exact g13 p hp hq
  · rw [h1 _ (by omega)] at hq; exact g16 p hp hq
/-- targets are laid out -/
theorem lk_ft (hF : fd_ok mM mS mI mc sc ar bd bv mo z y fo nN od fa fn) (hw : ∀ n, n < 8 → wn n = wi_wn bd bv od lc n) {C s0 : Nat} (hC : C < 1000) (hlo : lo_ok z C ba ly) (hRb : ∀ b, b < 16 → re_R bd bv mo fo nN wn s0 b → ba b ≠ -1) (hbR : ∀ b, b < 16 → ba b ≠ -1 → re_R bd bv mo fo nN wn s0 b)
    (hno : ∀ p, p < 64 → ¬ rn_P (re_R bd bv mo fo nN wn s0) bd bv mo z fo nN wn fa p) : fi_t bd bv mo z fo nN wn fa ba := by
  have hz : ∀ i, z i ≤ 8 := hF.2.2.2.2.2.2.2.2.1
  intro p hp hpl h7
  have hRp : re_R bd bv mo fo nN wn s0 (p / 8) := hbR _ (by omega) (fun q => by have := hpl.2.1; rw [q] at this; exact this na_m1lt)
  rcases re_tc (lc := lc) hF hw p with ht | ⟨q, hq, ht⟩
  · exact Or.inl ht
  · have hin : rn_i z q (fa p) := Classical.byContradiction (fun w => hno p hp ⟨hRp, h7, q, hq, ht, w⟩)
    obtain ⟨t, t1, t2, t3, t4⟩ := fi_rt hq (hz _) hin
    have hRq := re_Rs hp hRp h7 hq ht
    have hb := hRb _ (by omega) hRq
    refine Or.inr ⟨q, t, hq, ht, t4, t1, ?_, t3⟩
    rw [t2]
    rcases hlo.2.2.1 (q / 8) (by omega) with w | ⟨B, w1, w2, w3, _⟩
    · exact absurd w hb
    · rw [w1]; exact nI_pos (by omega)
/-- from the winners on -/
theorem lk_38 (hF : fd_ok mM mS mI mc sc ar bd bv mo z y fo nN od fa fn) (hld : ld_ok mc lc od po) (hd : wi_nd bd od lc) (hw : ∀ n, n < 8 → wn n = wi_wn bd bv od lc n) (hzc : ∀ n, n < 8 → z (8 + n) = wi_cm bd bv od n lc) (he : e < 8) :
    ∃ r u' v', i_Rel k u' v' ∧ (∀ post : Int32 → SX → Prop, post r u' → wX_link_38 post (nI e) 1 (nI 8) 0 6 7 (nI mM) (nI mS) (nI mI) (nI mc) (nI sc) 0 (nI lc) qc cc (na_v ar) (na_v bd) (na_v bv) (na_v mo) (na_v z) (na_v fo) fa fn (na_v od) po wn rt qu ba pa mO mA st ct aO aA oC ou) ∧ (∀ post : Int32 → SY → Prop, post r v' → wY_link_24 post (nI e) (nI mM) (nI mS) (nI mI) (nI mc) (nI sc) 0 (nI lc) cl (na_v ar) (na_v mo) (na_v y) (na_v fo) (na_v nN) fa (na_v bd) (na_v bv) (na_v od) ly rY kd vl ou st aO aV cY oC 1 (nI 8)) := by
  have hl : lc ≤ 8 := hld.1
  have hz : ∀ i, z i ≤ 8 := hF.2.2.2.2.2.2.2.2.1
  have hmI : mI ≤ 128 := hF.1.2.2.2.2.2.1
  have h88 : (8 : Int32) ≤ nI 8 := by decide
  have he8 : vp_in (nI e) 8 := vp_in_nI he (by decide)
  rcases wi_wn_cs (lc := lc) hF he with hn | ⟨s, hs, hws, hsl⟩
  · have hwe : wn (nI e).toNatClampNeg = -1 := by rw [nI_clamp (by omega), hw e he, hn]
    refine ⟨32 + nI e, (0, 6, 7, nI mM, nI mS, nI mI, nI mc, nI sc, 0, nI lc, qc, cc, na_v ar, na_v bd, na_v bv, na_v mo, na_v z, na_v fo, fa, fn, na_v od, po, wn, rt, qu, ba, pa, mO, mA, st, ct, aO, aA, oC, ou), (nI mM, nI mS, nI mI, nI mc, nI sc, 0, nI lc, cl, na_v ar, na_v mo, na_v y, na_v fo, na_v nN, fa, na_v bd, na_v bv, na_v od, ly, rY, kd, vl, ou, st, aO, aV, cY, oC), zz_in hF (Or.inl rfl), fun post hp => br_t h88 ⟨he8, br_t hwe hp⟩, fun post hp => br_t h88 (wi_yw he hF hl hd ?_)⟩
    rw [hn]
    exact br_t rfl hp
  have hwE : wn e = nI s := (hw e he).trans hws
  have hwe : wn (nI e).toNatClampNeg = nI s := by rw [nI_clamp (by omega), hwE]
  have hne : ¬ nI s = -1 := na_ne1 (by omega)
  have hweN : ¬ wn (nI e).toNatClampNeg = -1 := by rw [hwe]; exact hne
  obtain ⟨qn, rt1, qu1, hr, hXret⟩ := re_xa (mM := mM) (mS := mS) (mI := mI) (mc := mc) (sc := sc) (lc := lc) (ar := ar) (bd := bd) (bv := bv) (mo := mo) (z := z) (fo := fo) (od := od) (fa := fa) (fn := fn) (po := po) (wn := wn) (st := st) (ct := ct) (aO := aO) (aA := aA) (oC := oC) (ou := ou) (pa := pa) (mO := mO) (mA := mA) (L := 0) (qc := qc) (cc := cc) (rt := rt) (qu := qu) (ba := ba) (e := e) hF hw he hs hwE
  obtain ⟨rY1, hrY, hYret⟩ := re_ya (mM := mM) (mS := mS) (mI := mI) (mc := mc) (sc := sc) (lc := lc) (ar := ar) (bd := bd) (bv := bv) (mo := mo) (y := y) (fo := fo) (nN := nN) (od := od) (fa := fa) (kd := kd) (vl := vl) (st := st) (aO := aO) (aV := aV) (cY := cY) (oC := oC) (ou := ou) (L := 0) (cl := cl) (ly := ly) (rY := rY) (e := e) hF hl hd hw hs
  have hY0 : ∀ post : Int32 → SY → Prop, (∃ n224, wY_link_224 post (nI e) (nI s) (nI mM) (nI mS) (nI mI) (nI mc) (nI sc) 0 (nI lc) cl (na_v ar) (na_v mo) (na_v y) (na_v fo) (na_v nN) fa (na_v bd) (na_v bv) (na_v od) ly rY1 kd vl ou st aO aV cY oC n224 0) → wY_link_24 post (nI e) (nI mM) (nI mS) (nI mI) (nI mc) (nI sc) 0 (nI lc) cl (na_v ar) (na_v mo) (na_v y) (na_v fo) (na_v nN) fa (na_v bd) (na_v bv) (na_v od) ly rY kd vl ou st aO aV cY oC 1 (nI 8) := by
    intro post h
    refine br_t h88 (wi_yw he hF hl hd ?_)
    rw [hws]
    exact br_f hne (hYret post h)
  obtain ⟨r1, hu1, hXun⟩ := un_x (mM := mM) (mS := mS) (mI := mI) (mc := mc) (sc := sc) (lc := lc) (ar := ar) (bd := bd) (bv := bv) (mo := mo) (z := z) (fo := fo) (od := od) (fa := fa) (fn := fn) (po := po) (wn := wn) (st := st) (ct := ct) (aO := aO) (aA := aA) (oC := oC) (ou := ou) (pa := pa) (mO := mO) (mA := mA) (L := 0) (qc := nI qn) (cc := cc) (rt := rt1) (qu := qu1) (ba := ba) hF hr 64 0 (-1) (by omega) (Or.inl ⟨rfl, fun q => q, fun p hp => absurd hp (by omega)⟩)
  have hYun : ∀ post : Int32 → SY → Prop, (r1 = -1 → ∃ n322, wY_link_322 post (nI e) (nI s) (nI mM) (nI mS) (nI mI) (nI mc) (nI sc) 0 (nI lc) cl (na_v ar) (na_v mo) (na_v y) (na_v fo) (na_v nN) fa (na_v bd) (na_v bv) (na_v od) ly rY1 kd vl ou st aO aV cY oC n322 0) → (∀ n, n < 8 → r1 = nI n → post (48 + nI n) (nI mM, nI mS, nI mI, nI mc, nI sc, 0, nI lc, cl, na_v ar, na_v mo, na_v y, na_v fo, na_v nN, fa, na_v bd, na_v bv, na_v od, ly, rY1, kd, vl, ou, st, aO, aV, cY, oC)) → ∃ n224, wY_link_224 post (nI e) (nI s) (nI mM) (nI mS) (nI mI) (nI mc) (nI sc) 0 (nI lc) cl (na_v ar) (na_v mo) (na_v y) (na_v fo) (na_v nN) fa (na_v bd) (na_v bv) (na_v od) ly rY1 kd vl ou st aO aV cY oC n224 0 :=
    fun post h0 h1 => ⟨9, un_y hF hl hd hw hrY hu1 h0 h1 8 0 (by omega) (fun m _ _ => Nat.zero_le m)⟩
  have hu1' := hu1
  rcases hu1' with ⟨eu, _, _⟩ | ⟨n, eu, hn8, _⟩
  rotate_left
  · refine ⟨48 + nI n, (0, 6, 7, nI mM, nI mS, nI mI, nI mc, nI sc, 0, nI lc, nI qn, cc, na_v ar, na_v bd, na_v bv, na_v mo, na_v z, na_v fo, fa, fn, na_v od, po, wn, rt1, qu1, ba, pa, mO, mA, st, ct, aO, aA, oC, ou), (nI mM, nI mS, nI mI, nI mc, nI sc, 0, nI lc, cl, na_v ar, na_v mo, na_v y, na_v fo, na_v nN, fa, na_v bd, na_v bv, na_v od, ly, rY1, kd, vl, ou, st, aO, aV, cY, oC), zz_in hF (Or.inl rfl), fun post hp => ?_, fun post hp => hY0 post (hYun post (fun q => ?_) (fun m hm q => ?_))⟩
    · refine br_t h88 ⟨he8, br_f hweN (hXret _ ?_)⟩
      refine ⟨65, hXun _ 65 (by omega) ?_⟩
      rw [eu]
      exact br_f (nI_pos (by omega)) hp
    · rw [eu] at q; exact absurd q (na_ne1 (by omega))
    · rw [← q, eu]; exact hp
  obtain ⟨r2, hv1, hXrn⟩ := rn_x (mM := mM) (mS := mS) (mI := mI) (mc := mc) (sc := sc) (lc := lc) (ar := ar) (bd := bd) (bv := bv) (mo := mo) (z := z) (fo := fo) (od := od) (fa := fa) (fn := fn) (po := po) (wn := wn) (st := st) (ct := ct) (aO := aO) (aA := aA) (oC := oC) (ou := ou) (pa := pa) (mO := mO) (mA := mA) (L := 0) (qc := nI qn) (cc := cc) (rt := rt1) (qu := qu1) (ba := ba) (e := e) hF hw hr he hs hwE
  have hYrn : ∀ post : Int32 → SY → Prop, (r2 = -1 → wY_link_322 post (nI e) (nI s) (nI mM) (nI mS) (nI mI) (nI mc) (nI sc) 0 (nI lc) cl (na_v ar) (na_v mo) (na_v y) (na_v fo) (na_v nN) fa (na_v bd) (na_v bv) (na_v od) ly rY1 kd vl ou st aO aV cY oC 1 (nI 8)) → (∀ n, n < 8 → r2 = nI n → post (64 + nI n) (nI mM, nI mS, nI mI, nI mc, nI sc, 0, nI lc, cl, na_v ar, na_v mo, na_v y, na_v fo, na_v nN, fa, na_v bd, na_v bv, na_v od, ly, rY1, kd, vl, ou, st, aO, aV, cY, oC)) → wY_link_24 post (nI e) (nI mM) (nI mS) (nI mI) (nI mc) (nI sc) 0 (nI lc) cl (na_v ar) (na_v mo) (na_v y) (na_v fo) (na_v nN) fa (na_v bd) (na_v bv) (na_v od) ly rY kd vl ou st aO aV cY oC 1 (nI 8) :=
    fun post h0 h1 => hY0 post (hYun post (fun _ => ⟨9, rn_y he hs hF hl hd hw hzc hrY hv1 h0 h1 8 0 (by omega) (fun m _ _ => Nat.zero_le m)⟩) (fun m hm q => by rw [eu] at q; exact absurd q.symm (na_ne1 (by omega))))
  have hv1' := hv1
  rcases hv1' with ⟨ev, hE0, hnoP⟩ | ⟨n, ev, hn8, _⟩
  rotate_left
  · refine ⟨64 + nI n, (0, 6, 7, nI mM, nI mS, nI mI, nI mc, nI sc, 0, nI lc, nI qn, cc, na_v ar, na_v bd, na_v bv, na_v mo, na_v z, na_v fo, fa, fn, na_v od, po, wn, rt1, qu1, ba, pa, mO, mA, st, ct, aO, aA, oC, ou), (nI mM, nI mS, nI mI, nI mc, nI sc, 0, nI lc, cl, na_v ar, na_v mo, na_v y, na_v fo, na_v nN, fa, na_v bd, na_v bv, na_v od, ly, rY1, kd, vl, ou, st, aO, aV, cY, oC), zz_in hF (Or.inl rfl), fun post hp => ?_, fun post hp => hYrn post (fun q => ?_) (fun m hm q => ?_)⟩
    · refine br_t h88 ⟨he8, br_f hweN (hXret _ ?_)⟩
      refine ⟨65, hXun _ 65 (by omega) ?_⟩
      rw [eu]
      refine br_t na_m1lt (hXrn _ ?_)
      rw [ev]
      exact br_f (nI_pos (by omega)) hp
    · rw [ev] at q; exact absurd q (na_ne1 (by omega))
    · rw [← q, ev]; exact hp
  obtain ⟨C, ba1, ly1, hlo, hC137, hRb, hbR, hXlay, hYlay⟩ := lo_al (mM := mM) (mS := mS) (mI := mI) (mc := mc) (sc := sc) (lc := lc) (ar := ar) (bd := bd) (bv := bv) (mo := mo) (z := z) (fo := fo) (od := od) (fa := fa) (fn := fn) (po := po) (wn := wn) (st := st) (ct := ct) (aO := aO) (aA := aA) (oC := oC) (ou := ou) (pa := pa) (mO := mO) (mA := mA) (L := 0) (qc := nI qn) (cc := cc) (rt := rt1) (qu := qu1) (ba := ba) (cl := cl) (ly := ly) (rY := rY1) (kd := kd) (vl := vl) (aV := aV) (cY := cY) hF hl hld.2.2.1 hzc hr hrY (fun b h => re_rl hF hw hsl h)
  by_cases hCm : C ≤ mI
  rotate_left
  · have hCn : ¬ nI C ≤ nI mI := nI_ge (by omega) (by omega)
    refine ⟨80 + nI e, (0, 6, 7, nI mM, nI mS, nI mI, nI mc, nI sc, 0, nI lc, nI qn, nI C, na_v ar, na_v bd, na_v bv, na_v mo, na_v z, na_v fo, fa, fn, na_v od, po, wn, rt1, qu1, ba1, pa, mO, mA, st, ct, aO, aA, oC, ou), (nI mM, nI mS, nI mI, nI mc, nI sc, 0, nI lc, nI C, na_v ar, na_v mo, na_v y, na_v fo, na_v nN, fa, na_v bd, na_v bv, na_v od, ly1, rY1, kd, vl, ou, st, aO, aV, cY, oC), zz_in hF (Or.inl rfl), fun post hp => ?_, fun post hp => hYrn post (fun q => ?_) (fun m hm q => ?_)⟩
    · refine br_t h88 ⟨he8, br_f hweN (hXret _ ?_)⟩
      refine ⟨65, hXun _ 65 (by omega) ?_⟩
      rw [eu]
      refine br_t na_m1lt (hXrn _ ?_)
      rw [ev]
      refine br_t na_m1lt (hXlay _ ?_)
      exact br_f hCn hp
    · refine br_t h88 (hYlay _ ?_)
      exact br_f hCn hp
    · rw [ev] at q; exact absurd q.symm (na_ne1 (by omega))
  have hC128 : C ≤ 128 := by omega
  have hCn : nI C ≤ nI mI := nI_le hCm (by omega)
  have hft := lk_ft hF hw (by omega) hlo hRb hbR hnoP
  have hspl : lk_pl z ba1 s := by
    refine ⟨hs, ?_, Decidable.byContradiction (fun q => hE0 q)⟩
    rcases hlo.2.2.1 (s / 8) (by omega) with w | ⟨B, w1, w2, w3, _⟩
    · exact absurd w (hRb _ (by omega) re_R0)
    · rw [w1]; exact nI_pos (by omega)
  obtain ⟨pa1, mO1, mA1, hfi, hXfill⟩ := fi_xa (mM := mM) (mS := mS) (mI := mI) (mc := mc) (sc := sc) (lc := lc) (ar := ar) (bd := bd) (bv := bv) (mo := mo) (z := z) (fo := fo) (od := od) (fa := fa) (fn := fn) (po := po) (wn := wn) (st := st) (ct := ct) (aO := aO) (aA := aA) (oC := oC) (ou := ou) (pa := pa) (mO := mO) (mA := mA) (C := C) (L := 0) (qc := nI qn) (cc := nI C) (rt := rt1) (qu := qu1) (ba := ba1) hF hC128 hlo hft
  obtain ⟨kd1, vl1, hky, hYset⟩ := fi_ya (mM := mM) (mS := mS) (mI := mI) (mc := mc) (sc := sc) (lc := lc) (ar := ar) (bd := bd) (bv := bv) (mo := mo) (y := y) (fo := fo) (nN := nN) (od := od) (fa := fa) (kd := kd) (vl := vl) (st := st) (aO := aO) (aV := aV) (cY := cY) (oC := oC) (ou := ou) (L := 0) (cl := nI C) (ly := ly1) (rY := rY1) (s := s) hF hl hd hw
  have l2 := (lo_pl (by omega) hlo hspl).2.1
  refine ⟨0, (0, 6, 7, nI mM, nI mS, nI mI, nI mc, nI sc, 1, nI lc, nI qn, nI C, na_v ar, na_v bd, na_v bv, na_v mo, na_v z, na_v fo, fa, fn, na_v od, po, wn, rt1, qu1, ba1, pa1, mO1, mA1, upd (upd st 0 0) 1 0, upd (upd ct 0 (nI (lk_a ba1 s))) 1 (nI s), upd (upd aO 0 0) 1 0, upd (upd aA 0 0) 1 0, upd (upd oC 0 0) 1 0, ou),
    (nI mM, nI mS, nI mI, nI mc, nI sc, 1, nI lc, nI C, na_v ar, na_v mo, na_v y, na_v fo, na_v nN, fa, na_v bd, na_v bv, na_v od, ly1, rY1, kd1, vl1, ou, upd (upd st 0 0) 1 0, upd (upd aO 0 0) 1 0, upd (upd aV 0 0) 1 0, upd (upd cY 0 (nI s)) 1 (nI s), upd (upd oC 0 0) 1 0), ?_, fun post hp => ?_, fun post hp => hYrn post (fun q => ?_) (fun m hm q => ?_)⟩
  · exact zz_in hF (Or.inr ⟨rfl, C, ⟨rfl, rfl, hC128⟩, hld, hd, hw, hzc, hlo, fi_pa hz hC128 hlo hfi, fi_mm hF.2.2.2.2.2.2.2.2.2.2.2.1 hC128 hlo hft hfi hky, fi_rg hC128 hlo hspl⟩)
  · refine br_t h88 ⟨he8, br_f hweN (hXret _ ?_)⟩
    refine ⟨65, hXun _ 65 (by omega) ?_⟩
    rw [eu]
    refine br_t na_m1lt (hXrn _ ?_)
    rw [ev]
    refine br_t na_m1lt (hXlay _ ?_)
    refine br_t hCn (hXfill _ ?_)
    refine ⟨he8, ?_⟩
    rw [hwe]
    refine ad_x1 hspl hz ?_
    refine fi_sm (m := 0) (by decide) ?_
    refine ⟨he8, ?_⟩
    rw [hwe]
    exact fi_sm (m := 1) (by decide) hp
  · refine br_t h88 (hYlay _ ?_)
    refine br_t hCn (hYset _ ?_)
    exact hp
  · rw [ev] at q; exact absurd q.symm (na_ne1 (by omega))
/-- link, from an entry in range -/
theorem lk_e {L : Int32} (hF : fd_ok mM mS mI mc sc ar bd bv mo z y fo nN od fa fn) (he : e < 8) :
    ∃ r u' v', i_Rel k u' v' ∧ (∀ post : Int32 → SX → Prop, post r u' → wpX_link post (0, 6, 7, nI mM, nI mS, nI mI, nI mc, nI sc, L, nI lc, qc, cc, na_v ar, na_v bd, na_v bv, na_v mo, na_v z, na_v fo, fa, fn, na_v od, po, wn, rt, qu, ba, pa, mO, mA, st, ct, aO, aA, oC, ou) (nI e)) ∧ (∀ post : Int32 → SY → Prop, post r v' → wpY_link post (nI mM, nI mS, nI mI, nI mc, nI sc, L, nI lc, cl, na_v ar, na_v mo, na_v y, na_v fo, na_v nN, fa, na_v bd, na_v bv, na_v od, ly, rY, kd, vl, ou, st, aO, aV, cY, oC) (nI e)) := by
  have h0 : ¬ nI e < 0 := nI_pos (by omega)
  have h7 : nI e ≤ 7 := nI_le (b := 7) (by omega) (by decide)
  obtain ⟨lc1, od1, po1, hld, ho, hXl, hYl⟩ := ld_al (mM := mM) (mS := mS) (mI := mI) (mc := mc) (sc := sc) (lc := lc) (ar := ar) (bd := bd) (bv := bv) (mo := mo) (z := z) (y := y) (fo := fo) (nN := nN) (od := od) (L := 0) (qc := qc) (cc := cc) (cl := cl) (fa := fa) (fn := fn) (po := po) (wn := wn) (rt := rt) (qu := qu) (ba := ba) (pa := pa) (mO := mO) (mA := mA) (st := st) (ct := ct) (aO := aO) (aA := aA) (oC := oC) (ou := ou) (ly := ly) (rY := rY) (kd := kd) (vl := vl) (aV := aV) (cY := cY) (e := e) hF he
  have hF1 : fd_ok mM mS mI mc sc ar bd bv mo z y fo nN od1 fa fn := fd_lk hF (fun b hb => rfl) hF.2.2.2.2.2.2.2.2.1 ho
  have hl1 : lc1 ≤ 8 := hld.1
  have hb6 := hF.2.2.1
  have hv6 : ∀ i, bd i = 6 → bv i ≤ 8 := fun i h => (hF.2.2.2.2.1 i h).2
  obtain ⟨r, hcs, hX2, hY2⟩ := du_l (mM := mM) (mS := mS) (mI := mI) (mc := mc) (sc := sc) (lc := lc1) (ar := ar) (bd := bd) (bv := bv) (mo := mo) (z := z) (y := y) (fo := fo) (nN := nN) (od := od1) (L := 0) (qc := qc) (cc := cc) (cl := cl) (fa := fa) (fn := fn) (po := po1) (wn := wn) (rt := rt) (qu := qu) (ba := ba) (pa := pa) (mO := mO) (mA := mA) (st := st) (ct := ct) (aO := aO) (aA := aA) (oC := oC) (ou := ou) (ly := ly) (rY := rY) (kd := kd) (vl := vl) (aV := aV) (cY := cY) (e := e) hl1 ho hb6 8 0 (by omega) (fun n hn => absurd hn (by omega))
  rcases hcs with ⟨rfl, hdc⟩ | ⟨n, hn, rfl⟩
  · obtain ⟨z1, wn1, a1, a2, a3, _, a5⟩ := wi_x38 (mM := mM) (mS := mS) (mI := mI) (mc := mc) (sc := sc) (lc := lc1) (ar := ar) (bd := bd) (bv := bv) (mo := mo) (fo := fo) (od := od1) (L := 0) (qc := qc) (cc := cc) (fa := fa) (fn := fn) (po := po1) (rt := rt) (qu := qu) (ba := ba) (pa := pa) (mO := mO) (mA := mA) (st := st) (ct := ct) (aO := aO) (aA := aA) (oC := oC) (ou := ou) (e := e) hl1 ho hb6 hv6 8 0 z wn (by omega) hF.2.2.2.2.2.2.2.2.1
    have hF2 : fd_ok mM mS mI mc sc ar bd bv mo z1 y fo nN od1 fa fn := fd_lk hF a1 a2 ho
    obtain ⟨r', u', v', hR, hX3, hY3⟩ := lk_38 (k := k) (lc := lc1) (qc := qc) (cc := cc) (cl := cl) (po := po1) (wn := wn1) (rt := rt) (qu := qu) (ba := ba) (pa := pa) (mO := mO) (mA := mA) (st := st) (ct := ct) (aO := aO) (aA := aA) (oC := oC) (ou := ou) (ly := ly) (rY := rY) (kd := kd) (vl := vl) (aV := aV) (cY := cY) hF2 hld (du_nd hdc) (fun n hn => (a3 n (by omega) hn).2) (fun n hn => (a3 n (by omega) hn).1) he
    refine ⟨r', u', v', hR, fun post hp => ?_, fun post hp => ?_⟩
    · refine br_f h0 (br_t h7 (hXl _ ?_))
      refine ⟨9, hX2 _ 9 (by omega) ?_⟩
      exact br_t na_m1lt ⟨9, a5 post (hX3 post hp)⟩
    · refine br_f h0 (br_t h7 (hYl _ ?_))
      exact ⟨9, hY2 post (fun _ => hY3 post hp) (fun n hn q => absurd q.symm (na_ne1 (by omega)))⟩
  · refine ⟨16 + nI n, (0, 6, 7, nI mM, nI mS, nI mI, nI mc, nI sc, 0, nI lc1, qc, cc, na_v ar, na_v bd, na_v bv, na_v mo, na_v z, na_v fo, fa, fn, na_v od1, po1, wn, rt, qu, ba, pa, mO, mA, st, ct, aO, aA, oC, ou), (nI mM, nI mS, nI mI, nI mc, nI sc, 0, nI lc1, cl, na_v ar, na_v mo, na_v y, na_v fo, na_v nN, fa, na_v bd, na_v bv, na_v od1, ly, rY, kd, vl, ou, st, aO, aV, cY, oC), zz_in hF1 (Or.inl rfl), fun post hp => ?_, fun post hp => ?_⟩
    · refine br_f h0 (br_t h7 (hXl _ ?_))
      refine ⟨9, hX2 _ 9 (by omega) ?_⟩
      exact br_f (nI_pos (by omega)) hp
    · refine br_f h0 (br_t h7 (hYl _ ?_))
      refine ⟨9, hY2 post (fun q => absurd q (na_ne1 (by omega))) (fun m hm q => ?_)⟩
      rw [← q]; exact hp
theorem lk_link {L : Int32} (v1 : Int32) (hF : fd_ok mM mS mI mc sc ar bd bv mo z y fo nN od fa fn) (hL : L = 0 ∨ (L = 1 ∧ lk_all mc lc bd bv z od cc cl po wn ba pa mO mA ct aO aA oC ly kd vl aV cY)) :
    wpX_link (fun r u' => wpY_link (fun r' v' => r' = r ∧ i_Rel k u' v') (nI mM, nI mS, nI mI, nI mc, nI sc, L, nI lc, cl, na_v ar, na_v mo, na_v y, na_v fo, na_v nN, fa, na_v bd, na_v bv, na_v od, ly, rY, kd, vl, ou, st, aO, aV, cY, oC) v1) (0, 6, 7, nI mM, nI mS, nI mI, nI mc, nI sc, L, nI lc, qc, cc, na_v ar, na_v bd, na_v bv, na_v mo, na_v z, na_v fo, fa, fn, na_v od, po, wn, rt, qu, ba, pa, mO, mA, st, ct, aO, aA, oC, ou) v1 := by
  by_cases h0 : v1 < 0
  · exact br_t h0 (br_t h0 ⟨rfl, zz_in hF hL⟩)
  by_cases h7 : v1 ≤ 7
  · obtain ⟨e, he, rfl⟩ := na_bt (N := 7) h0 h7 (by decide)
    obtain ⟨r, u', v', hR, hX, hY⟩ := lk_e (k := k) (lc := lc) (L := L) (qc := qc) (cc := cc) (cl := cl) (po := po) (wn := wn) (rt := rt) (qu := qu) (ba := ba) (pa := pa) (mO := mO) (mA := mA) (st := st) (ct := ct) (aO := aO) (aA := aA) (oC := oC) (ou := ou) (ly := ly) (rY := rY) (kd := kd) (vl := vl) (aV := aV) (cY := cY) hF (by omega : e < 8)
    exact hX _ (hY _ ⟨rfl, hR⟩)
  · exact br_f h0 (br_f h7 (br_f h0 (br_f h7 ⟨rfl, zz_in hF hL⟩)))
end
theorem i_vc_link {k : Nat} {u : SX} {v : SY} (I : i_Rel k u v) (hk : k + 4 ≤ 2051) (v1 : Int32) : wpX_link (fun r u' => wpY_link (fun r' v' => r' = r ∧ i_Rel (k + 4) u' v') v v1) u v1 :=
  zz_el (P := fun u v => wpX_link (fun r u' => wpY_link (fun r' v' => r' = r ∧ i_Rel (k + 4) u' v') v v1) u v1) (fun hF hL => lk_link v1 hF hL) I
end
