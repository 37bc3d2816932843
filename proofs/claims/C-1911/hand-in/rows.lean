section
/-! rows taken from the kit's rows to paste -/
theorem pk_us {f : Nat → Int32} {k : Nat} {x : Int32} : upd f k x k = x := if_pos rfl
theorem pk_un {f : Nat → Int32} {k j : Nat} {x : Int32} (h : j ≠ k) : upd f k x j = f j := if_neg h
theorem pk_sub {a b : Nat} (h : b ≤ a) : nI a - nI b = nI (a - b) := by
  obtain ⟨c, rfl⟩ : ∃ c, a = c + b := ⟨a - b, by omega⟩
  rw [← nI_add, Int32.add_sub_cancel, Nat.add_sub_cancel]
theorem pk_mul (a b : Nat) : nI a * nI b = nI (a * b) := (Int32.ofNat_mul a b).symm
theorem pk_div {a d : Nat} (ha : a < 2 ^ 31) (h0 : 0 < d) (hd : d < 2 ^ 31) : nI a / nI d = nI (a / d) := by
  apply Int32.toInt_inj.mp
  rw [lg_idiv_nonneg (by rw [nI_toInt ha]; omega) (by rw [nI_toInt hd]; omega), nI_toInt ha, nI_toInt hd, nI_toInt (Nat.lt_of_le_of_lt (Nat.div_le_self a d) ha)]
  first | rfl | exact (Int.natCast_ediv _ _).symm
theorem pk_ix (x : Int32) {n : Nat} (hn : n < 2 ^ 31) : x < 0 ∨ nI n ≤ x ∨ ∃ j : Nat, j < n ∧ x = nI j := by
  by_cases h : x < 0
  · exact Or.inl h
  · obtain ⟨j, hj, rfl⟩ := nI_of h
    by_cases h2 : j < n
    · exact Or.inr (Or.inr ⟨j, h2, rfl⟩)
    · exact Or.inr (Or.inl (nI_le (by omega) hj))
theorem pk_le {x y : Int32} {A B : Prop} (a b : Nat) (f : a ≤ b → A) (g : b < a → B) (hx : x = nI a := by rfl) (hy : y = nI b := by rfl) (ha : a < 2 ^ 31 := by omega) (hb : b < 2 ^ 31 := by omega) : (x ≤ y → A) ∧ (¬ x ≤ y → B) := by
  subst hx hy
  rw [nI_leI ha hb]
  exact ⟨f, fun z => g (by omega)⟩
theorem pk_lt {x y : Int32} {A B : Prop} (a b : Nat) (f : a < b → A) (g : b ≤ a → B) (hx : x = nI a := by rfl) (hy : y = nI b := by rfl) (ha : a < 2 ^ 31 := by omega) (hb : b < 2 ^ 31 := by omega) : (x < y → A) ∧ (¬ x < y → B) := by
  subst hx hy
  rw [nI_ltI ha hb]
  exact ⟨f, fun z => g (by omega)⟩
theorem pk_eq {x y : Int32} {A B : Prop} (a b : Nat) (f : a = b → A) (g : a ≠ b → B) (hx : x = nI a := by rfl) (hy : y = nI b := by rfl) (ha : a < 2 ^ 31 := by omega) (hb : b < 2 ^ 31 := by omega) : (x = y → A) ∧ (¬ x = y → B) := by
  subst hx hy
  rw [nI_eq ha hb]
  exact ⟨f, g⟩
theorem pk_in {x : Int32} (n N : Nat) (h : n < N) (hx : x = nI n := by rfl) (hN : N < 2 ^ 31 := by omega) : vp_in x N := by
  subst hx
  exact vp_in_nI h hN
theorem pk_cl {x : Int32} (n : Nat) (hx : x = nI n := by rfl) (h : n < 2 ^ 31 := by omega) : x.toNatClampNeg = n := by
  subst hx
  exact nI_clamp h
theorem pk_tn {n : Nat} (h : n < 2 ^ 32) : (nI n).toBitVec.toNat = n := Nat.mod_eq_of_lt h
theorem pk_and (x : Int32) {m : Int32} (k : Nat) (hm : m.toBitVec.toNat = 2 ^ k - 1) : x &&& m = nI (x.toBitVec.toNat % 2 ^ k) := by
  apply Int32.toBitVec_inj.mp
  apply BitVec.eq_of_toNat_eq
  rw [Int32.toBitVec_and, BitVec.toNat_and, hm, Nat.and_two_pow_sub_one_eq_mod]
  show _ = (BitVec.ofNat 32 _).toNat
  rw [BitVec.toNat_ofNat]
  exact (Nat.mod_eq_of_lt (Nat.lt_of_le_of_lt (Nat.mod_le _ _) x.toBitVec.isLt)).symm
theorem pk_andE (x : Int32) {m : Int32} (k : Nat) (hm : m.toBitVec.toNat = 2 ^ k - 1) : ∃ j : Nat, j < 2 ^ k ∧ x &&& m = nI j := ⟨_, Nat.mod_lt _ (Nat.two_pow_pos k), pk_and x k hm⟩
def bt (x : Int32) (i : Nat) : Bool := x.toBitVec.getLsbD i
theorem b_ext {x y : Int32} (h : ∀ i, i < 32 → bt x i = bt y i) : x = y := Int32.toBitVec_inj.mp (BitVec.eq_of_getLsbD_eq (fun i hi => h i hi))
theorem b_and (x y : Int32) (i : Nat) : bt (x &&& y) i = (bt x i && bt y i) := by unfold bt; rw [Int32.toBitVec_and, BitVec.getLsbD_and]
theorem s_l : ∀ n, n < 32 → ((nI n &&& 31).toBitVec.smod 32).toNat = n := by decide +kernel
theorem b_sshr (n : Nat) (hn : n < 32) (x : Int32) {i : Nat} (hi : i < 32) : bt (x >>> (nI n &&& 31)) i = if n + i < 32 then bt x (n + i) else bt x 31 := by
  unfold bt
  rw [Int32.toBitVec_shiftRight]
  show (x.toBitVec.sshiftRight ((nI n &&& 31).toBitVec.smod 32).toNat).getLsbD i = _
  rw [s_l n hn, BitVec.getLsbD_sshiftRight, BitVec.msb_eq_getLsbD_last]
  simp [hi]
end
section
/-! pure: indices, filled arrays, cells, sums -/
theorem ht_at (t k : Nat) : nI t * 7 + nI k = nI (t * 7 + k) := by
  rw [show (7 : Int32) = nI 7 from rfl, pk_mul, nI_add]
theorem ht_at2 (m q : Nat) : nI m * 24 + nI q = nI (m * 24 + q) := by
  rw [show (24 : Int32) = nI 24 from rfl, pk_mul, nI_add]
theorem ht_at3 (m f v : Nat) : nI m * 24 + nI f * 8 + nI v = nI (m * 24 + f * 8 + v) := by
  rw [show (24 : Int32) = nI 24 from rfl, show (8 : Int32) = nI 8 from rfl, pk_mul, pk_mul, nI_add, nI_add]
theorem ht_d2 (n : Nat) : 2 * nI n + 2 = nI (2 * n + 2) := by
  rw [show (2 : Int32) = nI 2 from rfl, pk_mul, nI_add]
theorem ht_d1 (n : Nat) : 2 * nI n + 1 = nI (2 * n + 1) := by
  rw [show (2 : Int32) = nI 2 from rfl, pk_mul, nI_1]
theorem ht_us {f : Nat → Int32} {k : Nat} {x : Int32} (h : f k = x) : upd f k x = f := by
  funext j
  unfold upd
  by_cases e : j = k
  · rw [if_pos e, e, h]
  · rw [if_neg e]
theorem ht_uu {f : Nat → Int32} {k : Nat} {x y : Int32} : upd (upd f k x) k y = upd f k y := by
  funext j
  unfold upd
  by_cases e : j = k
  · rw [if_pos e, if_pos e]
  · rw [if_neg e, if_neg e, if_neg e]
def ht_fr (a m : Nat) (K arr : Nat → Int32) : Nat → Int32 := fun j => if a ≤ j ∧ j < a + m then K (j - a) else arr j
theorem ht_fr0 (a : Nat) (K arr : Nat → Int32) : ht_fr a 0 K arr = arr := by
  funext j
  unfold ht_fr
  rw [if_neg (by omega)]
theorem ht_frs (a m : Nat) (K arr : Nat → Int32) {x : Int32} (hx : x = K m) : upd (ht_fr a m K arr) (a + m) x = ht_fr a (m + 1) K arr := by
  subst hx
  funext j
  unfold upd ht_fr
  by_cases h : j = a + m
  · subst h
    rw [if_pos rfl, if_pos (by omega), Nat.add_sub_cancel_left]
  · rw [if_neg h]
    by_cases h2 : a ≤ j ∧ j < a + m
    · rw [if_pos h2, if_pos (by omega)]
    · rw [if_neg h2, if_neg (by omega)]
theorem ht_frn (a m : Nat) (K arr : Nat → Int32) (h : arr (a + m) = K m) : ht_fr a (m + 1) K arr = ht_fr a m K arr := by
  funext j
  unfold ht_fr
  by_cases h1 : j = a + m
  · subst h1
    rw [if_pos (by omega), if_neg (by omega), Nat.add_sub_cancel_left, h]
  · by_cases h2 : a ≤ j ∧ j < a + m
    · rw [if_pos h2, if_pos (by omega)]
    · rw [if_neg h2, if_neg (by omega)]
theorem ht_fl (m : Nat) (K arr : Nat → Int32) {x : Int32} (hx : x = K m) : upd (ht_fr 0 m K arr) m x = ht_fr 0 (m + 1) K arr := by
  have h := ht_frs 0 m K arr hx
  rwa [Nat.zero_add] at h
theorem ht_fln (m : Nat) (K arr : Nat → Int32) (h : arr m = K m) : ht_fr 0 (m + 1) K arr = ht_fr 0 m K arr := ht_frn 0 m K arr (by rw [Nat.zero_add]; exact h)
theorem ht_fri {a m q : Nat} {K arr : Nat → Int32} (h : q < m) : ht_fr a m K arr (a + q) = K q := by
  unfold ht_fr
  rw [if_pos (by omega), Nat.add_sub_cancel_left]
theorem ht_fro {a m j : Nat} {K arr : Nat → Int32} (h : j < a ∨ a + m ≤ j) : ht_fr a m K arr j = arr j := by
  unfold ht_fr
  rw [if_neg (by omega)]
theorem ht_fl1 {m j : Nat} {K arr : Nat → Int32} (h : j < m) : ht_fr 0 m K arr j = K j := by
  unfold ht_fr
  rw [if_pos (by omega), Nat.sub_zero]
theorem ht_fl2 {m j : Nat} {K arr : Nat → Int32} (h : m ≤ j) : ht_fr 0 m K arr j = arr j := ht_fro (by omega)
/-! cells -/
def ht_cl (x f : Int32) : Int32 := (x >>> ((3 * f) &&& 31)) &&& 7
def ht_cv (x : Int32) (f : Nat) : Nat := ((x >>> ((3 * nI f) &&& 31)).toBitVec.toNat) % 2 ^ 3
theorem ht_cle (x : Int32) (f : Nat) : ht_cl x (nI f) = nI (ht_cv x f) := pk_and _ 3 (by decide)
theorem ht_cv8 (x : Int32) (f : Nat) : ht_cv x f < 8 := Nat.mod_lt _ (by decide)
theorem ht_b511 : ∀ j, j < 9 → bt 511 j = true := by decide +kernel
theorem ht_b7 : ∀ j, j < 32 → ¬ j < 3 → bt 7 j = false := by decide +kernel
theorem ht_mk (x : Int32) (n : Nat) (hn : n ≤ 6) : ((x &&& 511) >>> (nI n &&& 31)) &&& 7 = (x >>> (nI n &&& 31)) &&& 7 := by
  apply b_ext
  intro i hi
  rw [b_and, b_and, b_sshr n (by omega) _ hi, b_sshr n (by omega) _ hi]
  by_cases h3 : i < 3
  · rw [if_pos (by omega), if_pos (by omega), b_and, ht_b511 _ (by omega), Bool.and_true]
  · rw [ht_b7 i hi h3, Bool.and_false, Bool.and_false]
theorem ht_mask (x f : Int32) (h : f = 0 ∨ f = 1 ∨ f = 2) : ht_cl (x &&& 511) f = ht_cl x f := by
  unfold ht_cl
  rcases h with rfl | rfl | rfl
  · rw [show (3 : Int32) * 0 = nI 0 from by decide]; exact ht_mk x 0 (by omega)
  · rw [show (3 : Int32) * 1 = nI 3 from by decide]; exact ht_mk x 3 (by omega)
  · rw [show (3 : Int32) * 2 = nI 6 from by decide]; exact ht_mk x 6 (by omega)
/-! sums -/
def ht_sm (g : Nat → Int) : Nat → Int
  | 0 => 0
  | n + 1 => ht_sm g n + g n
theorem ht_smc {g h : Nat → Int} : ∀ n, (∀ i, i < n → g i = h i) → ht_sm g n = ht_sm h n := by
  intro n
  induction n with
  | zero => intro _; rfl
  | succ n ih =>
    intro H
    show ht_sm g n + g n = ht_sm h n + h n
    rw [ih (fun i hi => H i (by omega)), H n (by omega)]
theorem ht_sma {g h k : Nat → Int} : ∀ n, (∀ i, i < n → g i = h i + k i) → ht_sm g n = ht_sm h n + ht_sm k n := by
  intro n
  induction n with
  | zero => intro _; rfl
  | succ n ih =>
    intro H
    show ht_sm g n + g n = (ht_sm h n + h n) + (ht_sm k n + k n)
    rw [ih (fun i hi => H i (by omega)), H n (by omega)]
    omega
theorem ht_sm0 {g : Nat → Int} : ∀ n, (∀ i, i < n → g i = 0) → ht_sm g n = 0 := by
  intro n
  induction n with
  | zero => intro _; rfl
  | succ n ih =>
    intro H
    show ht_sm g n + g n = 0
    rw [ih (fun i hi => H i (by omega)), H n (by omega)]
    rfl
/-- the sum of e over the rows below c that lie in node m and have feature f below b -/
def ht_K (e : Nat → Int) (p w : Nat → Int32) (m f b c : Nat) : Int := ht_sm (fun i => if w i = nI m ∧ ht_cv (p i) f < b then e i else 0) c
/-- the same with feature f just v -/
def ht_H (e : Nat → Int) (p w : Nat → Int32) (m f v c : Nat) : Int := ht_sm (fun i => if w i = nI m ∧ ht_cv (p i) f = v then e i else 0) c
theorem ht_K0 {e : Nat → Int} {p w : Nat → Int32} {m f c : Nat} : ht_K e p w m f 0 c = 0 :=
  ht_sm0 c (fun i _ => if_neg (by omega))
theorem ht_Ks {e : Nat → Int} {p w : Nat → Int32} {m f b c : Nat} : ht_K e p w m f (b + 1) c = ht_K e p w m f b c + ht_H e p w m f b c := by
  refine ht_sma c (fun i _ => ?_)
  by_cases hw : w i = nI m
  · by_cases h1 : ht_cv (p i) f < b
    · rw [if_pos ⟨hw, by omega⟩, if_pos ⟨hw, h1⟩, if_neg (by omega)]; omega
    · by_cases h2 : ht_cv (p i) f = b
      · rw [if_pos ⟨hw, by omega⟩, if_neg (by omega), if_pos ⟨hw, h2⟩]; omega
      · rw [if_neg (by omega), if_neg (by omega), if_neg (by omega)]; rfl
  · rw [if_neg (fun z => hw z.1), if_neg (fun z => hw z.1), if_neg (fun z => hw z.1)]; rfl
theorem ht_Kn {e : Nat → Int} {p w : Nat → Int32} {m f b i : Nat} : ht_K e p w m f b (i + 1) = ht_K e p w m f b i + (if w i = nI m ∧ ht_cv (p i) f < b then e i else 0) := rfl
theorem ht_Hn {e : Nat → Int} {p w : Nat → Int32} {m f v i : Nat} : ht_H e p w m f v (i + 1) = ht_H e p w m f v i + (if w i = nI m ∧ ht_cv (p i) f = v then e i else 0) := rfl
theorem ht_K1 {p w : Nat → Int32} {m f b : Nat} : ∀ c : Nat, 0 ≤ ht_K (fun _ => 1) p w m f b c ∧ ht_K (fun _ => 1) p w m f b c ≤ c := by
  intro c
  induction c with
  | zero => exact ⟨Int.le_refl 0, Int.le_refl 0⟩
  | succ c ih =>
    rw [ht_Kn]
    by_cases h : w c = nI m ∧ ht_cv (p c) f < b
    · rw [if_pos h]; omega
    · rw [if_neg h]; omega
theorem ht_Kb {e : Nat → Int} {p w : Nat → Int32} {m f b : Nat} {B : Int} (hB : 0 ≤ B) : ∀ c : Nat, (∀ i, i < c → -B ≤ e i ∧ e i ≤ B) → -(B * ht_K (fun _ => 1) p w m f b c) ≤ ht_K e p w m f b c ∧ ht_K e p w m f b c ≤ B * ht_K (fun _ => 1) p w m f b c := by
  intro c
  induction c with
  | zero =>
    intro _
    have h1 : ht_K (fun _ => 1) p w m f b 0 = 0 := rfl
    have h2 : ht_K e p w m f b 0 = 0 := rfl
    rw [h1, h2, Int.mul_zero]
    exact ⟨Int.le_refl 0, Int.le_refl 0⟩
  | succ c ih =>
    intro H
    have h1 := ih (fun i hi => H i (by omega))
    have h2 := H c (by omega)
    rw [ht_Kn, ht_Kn]
    by_cases h : w c = nI m ∧ ht_cv (p c) f < b
    · rw [if_pos h, if_pos h, Int.mul_add, Int.mul_one]; omega
    · rw [if_neg h, if_neg h, Int.add_zero, Int.add_zero]; exact h1
/-- the rows of a node that is parted -/
theorem ht_Hsp {e : Nat → Int} {p w w' : Nat → Int32} {m a d f v c : Nat} (had : ¬ nI a = nI d) (hm : ∀ i, i < c → w i = nI m → w' i = nI a ∨ w' i = nI d) (ho : ∀ i, i < c → ¬ w i = nI m → ¬ w' i = nI a ∧ ¬ w' i = nI d) : ht_H e p w m f v c = ht_H e p w' a f v c + ht_H e p w' d f v c := by
  refine ht_sma c (fun i hi => ?_)
  by_cases hw : w i = nI m
  · by_cases hv : ht_cv (p i) f = v
    · rw [if_pos ⟨hw, hv⟩]
      rcases hm i hi hw with h | h
      · rw [if_pos ⟨h, hv⟩, if_neg (fun z => had (h.symm.trans z.1))]; omega
      · rw [if_neg (fun z => had (z.1.symm.trans h)), if_pos ⟨h, hv⟩]; omega
    · rw [if_neg (fun z => hv z.2), if_neg (fun z => hv z.2), if_neg (fun z => hv z.2)]; rfl
  · rw [if_neg (fun z => hw z.1), if_neg (fun z => (ho i hi hw).1 z.1), if_neg (fun z => (ho i hi hw).2 z.1)]; rfl
theorem ht_Hke {e : Nat → Int} {p w w' : Nat → Int32} {m f v c : Nat} (h : ∀ i, i < c → (w' i = nI m ↔ w i = nI m)) : ht_H e p w' m f v c = ht_H e p w m f v c := by
  refine ht_smc c (fun i hi => ?_)
  by_cases hw : w i = nI m ∧ ht_cv (p i) f = v
  · rw [if_pos hw, if_pos ⟨(h i hi).mpr hw.1, hw.2⟩]
  · rw [if_neg hw, if_neg (fun z => hw ⟨(h i hi).mp z.1, z.2⟩)]
/-! numbers -/
theorem ht_o3 {z : Int} (h1 : -1000000 ≤ z) (h2 : z ≤ 1000000) : (Int32.ofInt z).toInt = z := Int32.toInt_ofInt_of_le (by omega) (by omega)
theorem ht_o36 {z : Int} (h1 : -1000000 ≤ z) (h2 : z ≤ 1000000) : (Int32.ofInt z).toInt64 = Int64.ofInt z := by
  rw [← Int64.ofInt_int32ToInt, ht_o3 h1 h2]
theorem ht_lt6 {a b : Int} (ha : -9000000000000000000 ≤ a) (ha' : a ≤ 9000000000000000000) (hb : -9000000000000000000 ≤ b) (hb' : b ≤ 9000000000000000000) : Int64.ofInt a < Int64.ofInt b ↔ a < b := by
  rw [Int64.lt_iff_toInt_lt, Int64.toInt_ofInt_of_le (by omega) (by omega), Int64.toInt_ofInt_of_le (by omega) (by omega)]
theorem ht_le6 {a b : Int} (ha : -9000000000000000000 ≤ a) (ha' : a ≤ 9000000000000000000) (hb : -9000000000000000000 ≤ b) (hb' : b ≤ 9000000000000000000) : Int64.ofInt a ≤ Int64.ofInt b ↔ a ≤ b := by
  rw [Int64.le_iff_toInt_le, Int64.toInt_ofInt_of_le (by omega) (by omega), Int64.toInt_ofInt_of_le (by omega) (by omega)]
theorem ht_nI6 {l : Nat} (h : l < 2 ^ 31) : (nI l).toInt64 = Int64.ofInt (l : Int) := by
  rw [nI_l h, Int64.ofInt_eq_ofNat]
  rfl
theorem ht_mulb {a b A B : Int} (ha : -A ≤ a ∧ a ≤ A) (hb : -B ≤ b ∧ b ≤ B) : -(A * B) ≤ a * b ∧ a * b ≤ A * B := by
  have hA : 0 ≤ A := by omega
  have hB : 0 ≤ B := by omega
  have h : (a * b).natAbs ≤ (A * B).natAbs := by
    rw [Int.natAbs_mul, Int.natAbs_mul]
    exact Nat.mul_le_mul (by omega) (by omega)
  have h2 : 0 ≤ A * B := Int.mul_nonneg hA hB
  omega
end
section
/-! the predictions, for both sides the same pure function -/
def ht_nx (sf sb : Nat → Int32) (s : Nat) (x : Int32) (n : Nat) : Nat := if sf (s * 7 + n) < 0 then n else if sb (s * 7 + n) < ht_cl x (sf (s * 7 + n)) then 2 * n + 2 else 2 * n + 1
def ht_pv (sf sb lv : Nat → Int32) (x : Int32) (s : Nat) : Int32 := lv (s * 7 + ht_nx sf sb s x (ht_nx sf sb s x 0))
def ht_pa (sf sb lv : Nat → Int32) (x : Int32) : Nat → Int32
  | 0 => 0
  | s + 1 => ht_pa sf sb lv x s + ht_pv sf sb lv x s
theorem ht_nx_t {sf sb : Nat → Int32} {s : Nat} {x : Int32} {n : Nat} (h : sf (s * 7 + n) < 0) : ht_nx sf sb s x n = n := if_pos h
theorem ht_nx_r {sf sb : Nat → Int32} {s : Nat} {x : Int32} {n : Nat} (h : ¬ sf (s * 7 + n) < 0) (h2 : sb (s * 7 + n) < ht_cl x (sf (s * 7 + n))) : ht_nx sf sb s x n = 2 * n + 2 := by
  unfold ht_nx
  rw [if_neg h, if_pos h2]
theorem ht_nx_l {sf sb : Nat → Int32} {s : Nat} {x : Int32} {n : Nat} (h : ¬ sf (s * 7 + n) < 0) (h2 : ¬ sb (s * 7 + n) < ht_cl x (sf (s * 7 + n))) : ht_nx sf sb s x n = 2 * n + 1 := by
  unfold ht_nx
  rw [if_neg h, if_neg h2]
theorem ht_nx_b (sf sb : Nat → Int32) (s : Nat) (x : Int32) (n : Nat) : ht_nx sf sb s x n ≤ 2 * n + 2 := by
  unfold ht_nx
  split
  · omega
  · split <;> omega
theorem ht_fo {post : Int32 → Prop} {x f : Int32} (h : post (ht_cl x f)) : wpX_featureOf post x f := h
section
variable {l c t : Nat} {qf qb : Int32} {qt qd : Int64} {p g sf sb lv nr rs w cr cs : Nat → Int32}
theorem ht_yc {post : Int32 → Prop} {x f : Int32} (h : post (ht_cl x f)) : wpY_cell post (nI l, nI c, nI t, p, g, sf, sb, lv, nr, rs, w) x f := h
theorem ht_xend {post : Int32 → Prop} {s n : Nat} (hs : s < 4) (hn : n < 7) (h : post (lv (s * 7 + n))) : wX_predictBy_78 post (nI s) (nI n) (nI l) (nI c) (nI t) qf qb qt qd p g sf sb lv nr rs w cr cs := by
  unfold wX_predictBy_78
  rw [ht_at, nI_clamp (by omega)]
  exact ⟨vp_in_nI (by omega) (by omega), h⟩
theorem ht_xst {post : Int32 → Prop} {s n i fuel : Nat} {x : Int32} (hs : s < 4) (hn : n < 3) (hi : i < 2) (h0 : sf (s * 7 + n) < 0 → post (lv (s * 7 + n))) (h1 : ¬ sf (s * 7 + n) < 0 → wX_predictBy_5 post (nI s) x (nI l) (nI c) (nI t) qf qb qt qd p g sf sb lv nr rs w cr cs fuel (nI (ht_nx sf sb s x n)) (nI (i + 1))) : wX_predictBy_5 post (nI s) x (nI l) (nI c) (nI t) qf qb qt qd p g sf sb lv nr rs w cr cs (fuel + 1) (nI n) (nI i) := by
  have hin : vp_in (nI (s * 7 + n)) 28 := vp_in_nI (by omega) (by omega)
  refine br_f (nI_ge (a := i) (b := 2) (by omega) (by decide)) ?_
  rw [ht_at, nI_clamp (by omega)]
  refine ⟨hin, br_c (fun z => ht_xend hs (by omega) (h0 z)) (fun z => nm_e ?_)⟩
  rw [nI_clamp (by omega)]
  refine ⟨hin, ht_fo ⟨hin, br_c (fun z2 => nm_r (ht_d2 n) (nm_r (nI_1 i) ?_)) (fun z2 => nm_r (ht_d1 n) (nm_r (nI_1 i) ?_))⟩⟩
  · have h := h1 z
    rw [ht_nx_r z z2] at h
    exact h
  · have h := h1 z
    rw [ht_nx_l z z2] at h
    exact h
theorem ht_xpb {post : Int32 → Prop} {s : Nat} {x : Int32} (hs : s < 4) (h : post (ht_pv sf sb lv x s)) : wpX_predictBy post (nI l, nI c, nI t, qf, qb, qt, qd, p, g, sf, sb, lv, nr, rs, w, cr, cs) (nI s) x := by
  refine Exists.intro 3 ?_
  have hb := ht_nx_b sf sb s x 0
  refine ht_xst (n := 0) (i := 0) hs (by omega) (by omega) (fun z => ?_) (fun z => ?_)
  · unfold ht_pv at h
    rw [ht_nx_t z, ht_nx_t z] at h
    exact h
  · unfold ht_pv at h
    generalize ht_nx sf sb s x 0 = m at h hb
    have hb2 := ht_nx_b sf sb s x m
    refine ht_xst (n := m) (i := 1) hs (by omega) (by omega) (fun z => ?_) (fun z => ?_)
    · rw [ht_nx_t z] at h
      exact h
    · exact br_t (nI_le (a := 2) (b := 2) (by omega) (by decide)) (ht_xend hs (by omega) h)
theorem ht_yst {post : Int32 → Prop} {s n i fuel : Nat} {x : Int32} (hs : s < 4) (hn : n < 3) (hi : i < 2) (h1 : wY_leafValue_5 post (nI s) x (nI l) (nI c) (nI t) p g sf sb lv nr rs w fuel (nI (ht_nx sf sb s x n)) (nI (i + 1))) : wY_leafValue_5 post (nI s) x (nI l) (nI c) (nI t) p g sf sb lv nr rs w (fuel + 1) (nI n) (nI i) := by
  have hin : vp_in (nI (s * 7 + n)) 28 := vp_in_nI (by omega) (by omega)
  refine br_f (nI_ge (a := i) (b := 2) (by omega) (by decide)) (nm_r (ht_at s n) (br_f (nI_ge (a := n) (b := 3) (by omega) (by decide)) ?_))
  rw [nI_clamp (by omega)]
  refine ⟨hin, br_c (fun z => nm_r (nI_1 i) ?_) (fun z => ⟨hin, ht_yc ⟨hin, br_c (fun z2 => nm_r (ht_d2 n) (nm_r (nI_1 i) ?_)) (fun z2 => nm_r (ht_d1 n) (nm_r (nI_1 i) ?_))⟩⟩)⟩
  · rw [ht_nx_t z] at h1
    exact h1
  · rw [ht_nx_r z z2] at h1
    exact h1
  · rw [ht_nx_l z z2] at h1
    exact h1
theorem ht_ylv {post : Int32 → Prop} {s : Nat} {x : Int32} (hs : s < 4) (h : post (ht_pv sf sb lv x s)) : wpY_leafValue post (nI l, nI c, nI t, p, g, sf, sb, lv, nr, rs, w) (nI s) x := by
  refine Exists.intro 3 ?_
  have hb := ht_nx_b sf sb s x 0
  refine ht_yst (n := 0) (i := 0) hs (by omega) (by omega) ?_
  unfold ht_pv at h
  generalize ht_nx sf sb s x 0 = m at h hb
  have hb2 := ht_nx_b sf sb s x m
  refine ht_yst (n := m) (i := 1) hs (by omega) (by omega) ?_
  refine br_t (nI_le (a := 2) (b := 2) (by omega) (by decide)) ?_
  rw [ht_at, nI_clamp (by omega)]
  exact ⟨vp_in_nI (by omega) (by omega), h⟩
theorem ht_xpl {post : Int32 → Prop} {x : Int32} (ht : t ≤ 4) (h : post (ht_pa sf sb lv x t)) : ∀ d s n, s + d = t → d < n → wX_predictAll_4 post x (nI l) (nI c) (nI t) qf qb qt qd p g sf sb lv nr rs w cr cs n (ht_pa sf sb lv x s) (nI s) := by
  intro d
  induction d with
  | zero =>
    intro s n hs hn
    obtain ⟨n, rfl⟩ : ∃ k, n = k + 1 := ⟨n - 1, by omega⟩
    obtain rfl : s = t := by omega
    exact br_t (nI_le (by omega) (by omega)) h
  | succ d ih =>
    intro s n hs hn
    obtain ⟨n, rfl⟩ : ∃ k, n = k + 1 := ⟨n - 1, by omega⟩
    exact br_f (nI_ge (by omega) (by omega)) (ht_xpb (by omega) (nm_e (nm_r (nI_1 s) (ih (s + 1) n (by omega) (by omega)))))
theorem ht_xpa {post : Int32 → Prop} {x : Int32} (ht : t ≤ 4) (h : post (ht_pa sf sb lv x t)) : wpX_predictAll post (nI l, nI c, nI t, qf, qb, qt, qd, p, g, sf, sb, lv, nr, rs, w, cr, cs) x :=
  Exists.intro (t + 1) (ht_xpl ht h t 0 (t + 1) (by omega) (by omega))
theorem ht_ypl {post : Int32 → Prop} {x : Int32} (ht : t ≤ 4) (h : post (ht_pa sf sb lv x t)) : ∀ d s n, s + d = t → d < n → wY_predict_4 post x (nI l) (nI c) (nI t) p g sf sb lv nr rs w n (ht_pa sf sb lv x s) (nI s) := by
  intro d
  induction d with
  | zero =>
    intro s n hs hn
    obtain ⟨n, rfl⟩ : ∃ k, n = k + 1 := ⟨n - 1, by omega⟩
    obtain rfl : s = t := by omega
    exact br_t (nI_le (by omega) (by omega)) h
  | succ d ih =>
    intro s n hs hn
    obtain ⟨n, rfl⟩ : ∃ k, n = k + 1 := ⟨n - 1, by omega⟩
    exact br_f (nI_ge (by omega) (by omega)) (ht_ylv (by omega) (nm_e (nm_r (nI_1 s) (ih (s + 1) n (by omega) (by omega)))))
theorem ht_ypr {post : Int32 → Prop} {x : Int32} (ht : t ≤ 4) (h : post (ht_pa sf sb lv x t)) : wpY_predict post (nI l, nI c, nI t, p, g, sf, sb, lv, nr, rs, w) x :=
  Exists.intro (t + 1) (ht_ypl ht h t 0 (t + 1) (by omega) (by omega))
theorem ht_xro {post : Int32 → Prop} {i : Nat} (ht : t ≤ 4) (hi : i < 24) (h : post (g i - ht_pa sf sb lv (p i) t)) : wpX_restOf post (nI l, nI c, nI t, qf, qb, qt, qd, p, g, sf, sb, lv, nr, rs, w, cr, cs) (nI i) := by
  have hin : vp_in (nI i) 24 := vp_in_nI hi (by omega)
  unfold wpX_restOf
  dsimp only
  rw [nI_clamp (by omega)]
  exact ⟨hin, ht_xpa ht ⟨hin, h⟩⟩
theorem ht_yre {post : Int32 → Prop} {i : Nat} (ht : t ≤ 4) (hc : c ≤ 24) (hi : i < c) (h : post (g i - ht_pa sf sb lv (p i) t)) : wpY_rest post (nI l, nI c, nI t, p, g, sf, sb, lv, nr, rs, w) (nI i) := by
  have hin : vp_in (nI i) 24 := vp_in_nI (by omega) (by omega)
  unfold wpY_rest
  dsimp only
  rw [nI_clamp (by omega)]
  exact br_f (nI_pos (by omega)) (br_t (nI_lt hi (by omega)) ⟨hin, hin, ht_ypr ht h⟩)
end
/-- what a stored feature of a split may be -/
def ht_SF (sf : Nat → Int32) : Prop := ∀ j, sf j < 0 ∨ sf j = 0 ∨ sf j = 1 ∨ sf j = 2
def ht_LV (lv : Nat → Int32) : Prop := ∀ s j, s < 4 → j < 7 → -(50 * 2 ^ s) ≤ (lv (s * 7 + j)).toInt ∧ (lv (s * 7 + j)).toInt ≤ 50 * 2 ^ s
theorem ht_pam {sf sb lv : Nat → Int32} (h : ht_SF sf) (x : Int32) : ∀ s, ht_pa sf sb lv (x &&& 511) s = ht_pa sf sb lv x s := by
  have hn : ∀ s n, ht_nx sf sb s (x &&& 511) n = ht_nx sf sb s x n := by
    intro s n
    unfold ht_nx
    by_cases z : sf (s * 7 + n) < 0
    · rw [if_pos z, if_pos z]
    · have hm := ht_mask x (sf (s * 7 + n)) ((h (s * 7 + n)).resolve_left z)
      rw [if_neg z, if_neg z, hm]
  intro s
  induction s with
  | zero => rfl
  | succ s ih =>
    show ht_pa sf sb lv (x &&& 511) s + ht_pv sf sb lv (x &&& 511) s = ht_pa sf sb lv x s + ht_pv sf sb lv x s
    unfold ht_pv
    rw [ih, hn, hn]
theorem ht_2p : ∀ s : Nat, s < 4 → (1 : Int) ≤ 2 ^ s ∧ (2 : Int) ^ s ≤ 8 := by decide
theorem ht_pab {sf sb lv : Nat → Int32} (h : ht_LV lv) (x : Int32) : ∀ s, s ≤ 4 → -(50 * 2 ^ s - 50) ≤ (ht_pa sf sb lv x s).toInt ∧ (ht_pa sf sb lv x s).toInt ≤ 50 * 2 ^ s - 50 := by
  intro s
  induction s with
  | zero =>
    intro _
    show -(50 * 2 ^ 0 - 50) ≤ (0 : Int32).toInt ∧ (0 : Int32).toInt ≤ 50 * 2 ^ 0 - 50
    decide
  | succ s ih =>
    intro hs
    have h1 := ih (by omega)
    have hb := ht_nx_b sf sb s x 0
    have hb2 := ht_nx_b sf sb s x (ht_nx sf sb s x 0)
    have h2 := h s (ht_nx sf sb s x (ht_nx sf sb s x 0)) (by omega) (by omega)
    have hp := ht_2p s (by omega)
    have e : ht_pa sf sb lv x (s + 1) = ht_pa sf sb lv x s + lv (s * 7 + ht_nx sf sb s x (ht_nx sf sb s x 0)) := rfl
    have e2 : (2 : Int) ^ (s + 1) = 2 ^ s * 2 := rfl
    rw [e, e2]
    generalize (2 : Int) ^ s = q at *
    generalize ht_pa sf sb lv x s = A at *
    generalize lv (s * 7 + ht_nx sf sb s x (ht_nx sf sb s x 0)) = Bv at *
    rw [Jvm.Kit.i32_add (by omega) (by omega)]
    omega
theorem ht_rb {g p sf sb lv : Nat → Int32} (h : ht_LV lv) {s i : Nat} (hs : s < 4) (hg : -50 ≤ (g i).toInt ∧ (g i).toInt ≤ 50) : -(50 * 2 ^ s) ≤ (g i - ht_pa sf sb lv (p i) s).toInt ∧ (g i - ht_pa sf sb lv (p i) s).toInt ≤ 50 * 2 ^ s := by
  have h1 := ht_pab (sf := sf) (sb := sb) h (p i) s (by omega)
  have hp := ht_2p s hs
  generalize (2 : Int) ^ s = q at *
  generalize ht_pa sf sb lv (p i) s = A at *
  rw [Jvm.Kit.i32_sub (by omega) (by omega)]
  omega
end
section
/-! the component's histograms -/
def ht_HC (p w rs : Nat → Int32) (i : Nat) (cr cs : Nat → Int32) (m : Nat) : Prop := ∀ f v, f < 3 → v < 8 → cr (m * 24 + f * 8 + v) = Int32.ofInt (ht_H (fun _ => 1) p w m f v i) ∧ cs (m * 24 + f * 8 + v) = Int32.ofInt (ht_H (fun j => (rs j).toInt) p w m f v i)
/-- nothing outside of node m's cells differs -/
def ht_KP (m : Nat) (a b : Nat → Int32) : Prop := ∀ j, (j < m * 24 ∨ m * 24 + 24 ≤ j) → b j = a j
theorem ht_KPr (m : Nat) (a : Nat → Int32) : ht_KP m a a := fun _ _ => rfl
theorem ht_KPt {m : Nat} {a b d : Nat → Int32} (h : ht_KP m a b) (h2 : ht_KP m b d) : ht_KP m a d := fun j hj => (h2 j hj).trans (h j hj)
theorem ht_KPf {m : Nat} {K a : Nat → Int32} : ht_KP m a (ht_fr (m * 24) 24 K a) := fun _ hj => ht_fro hj
theorem ht_KPu {m k : Nat} {a : Nat → Int32} {x : Int32} (h1 : m * 24 ≤ k) (h2 : k < m * 24 + 24) : ht_KP m a (upd a k x) := fun _ hj => pk_un (by omega)
theorem ht_HCk {p w rs cr cs cr' cs' : Nat → Int32} {i m a : Nat} (h : ht_HC p w rs i cr cs m) (h1 : ht_KP a cr cr') (h2 : ht_KP a cs cs') (hma : m ≠ a) : ht_HC p w rs i cr' cs' m := by
  intro f v hf hv
  rw [h1 _ (by omega), h2 _ (by omega)]
  exact h f v hf hv
section
variable {l c t : Nat} {qf qb : Int32} {qt qd : Int64} {p g sf sb lv nr rs w cr cs : Nat → Int32}
theorem ht_xcc {post : SX → Prop} {m : Nat} (hm : m < 7) (h : post (nI l, nI c, nI t, qf, qb, qt, qd, p, g, sf, sb, lv, nr, rs, w, ht_fr (m * 24) 24 (fun _ => 0) cr, ht_fr (m * 24) 24 (fun _ => 0) cs)) : wpX_clearCells post (nI l, nI c, nI t, qf, qb, qt, qd, p, g, sf, sb, lv, nr, rs, w, cr, cs) (nI m) := by
  have L : ∀ d q n, q + d = 24 → d < n → wX_clearCells_2 post (nI m) (nI l) (nI c) (nI t) qf qb qt qd n (nI q) p g sf sb lv nr rs w (ht_fr (m * 24) q (fun _ => 0) cr) (ht_fr (m * 24) q (fun _ => 0) cs) := by
    intro d
    induction d with
    | zero =>
      intro q n hq hn
      obtain ⟨n, rfl⟩ : ∃ k, n = k + 1 := ⟨n - 1, by omega⟩
      obtain rfl : q = 24 := by omega
      exact br_t (nI_le (a := 24) (b := 24) (by omega) (by decide)) h
    | succ d ih =>
      intro q n hq hn
      obtain ⟨n, rfl⟩ : ∃ k, n = k + 1 := ⟨n - 1, by omega⟩
      have hin : vp_in (nI (m * 24 + q)) 168 := vp_in_nI (by omega) (by omega)
      refine br_f (nI_ge (a := q) (b := 24) (by omega) (by decide)) ?_
      rw [ht_at2, nI_clamp (by omega)]
      exact ⟨hin, nm_r (ht_frs _ _ _ _ rfl) ⟨hin, nm_r (ht_frs _ _ _ _ rfl) (nm_r (nI_1 q) (ih (q + 1) n (by omega) (by omega)))⟩⟩
  have h0 := L 24 0 25 (by omega) (by omega)
  rw [ht_fr0, ht_fr0] at h0
  exact Exists.intro 25 h0
theorem ht_xal {m i : Nat} (hm : m < 7) (hi : i < 24) : ∀ d k (cr cs : Nat → Int32), k + d = 3 → ∃ cr' cs' : Nat → Int32, ht_KP m cr cr' ∧ ht_KP m cs cs' ∧ (∀ f v, f < 3 → v < 8 → cr' (m * 24 + f * 8 + v) = (if k ≤ f ∧ ht_cv (p i) f = v then cr (m * 24 + f * 8 + v) + 1 else cr (m * 24 + f * 8 + v)) ∧ cs' (m * 24 + f * 8 + v) = (if k ≤ f ∧ ht_cv (p i) f = v then cs (m * 24 + f * 8 + v) + rs i else cs (m * 24 + f * 8 + v))) ∧ ∀ (post : SX → Prop) (n : Nat), d < n → post (nI l, nI c, nI t, qf, qb, qt, qd, p, g, sf, sb, lv, nr, rs, w, cr', cs') → wX_addRow_2 post (nI m) (nI i) (nI l) (nI c) (nI t) qf qb qt qd n (nI k) p g sf sb lv nr rs w cr cs := by
  intro d
  induction d with
  | zero =>
    intro k cr cs hk
    refine ⟨cr, cs, ht_KPr m cr, ht_KPr m cs, fun f v hf hv => ⟨by rw [if_neg (by omega)], by rw [if_neg (by omega)]⟩, fun post n hn h => ?_⟩
    obtain ⟨n, rfl⟩ : ∃ k, n = k + 1 := ⟨n - 1, by omega⟩
    obtain rfl : k = 3 := by omega
    exact br_t (nI_le (a := 3) (b := 3) (by omega) (by decide)) h
  | succ d ih =>
    intro k cr cs hk
    have h8 := ht_cv8 (p i) k
    obtain ⟨cr', cs', k1, k2, hs, hw⟩ := ih (k + 1) (upd cr (m * 24 + k * 8 + ht_cv (p i) k) (cr (m * 24 + k * 8 + ht_cv (p i) k) + 1)) (upd cs (m * 24 + k * 8 + ht_cv (p i) k) (cs (m * 24 + k * 8 + ht_cv (p i) k) + rs i)) (by omega)
    refine ⟨cr', cs', ht_KPt (ht_KPu (by omega) (by omega)) k1, ht_KPt (ht_KPu (by omega) (by omega)) k2, fun f v hf hv => ?_, fun post n hn h => ?_⟩
    · rw [(hs f v hf hv).1, (hs f v hf hv).2]
      by_cases hfk : f = k
      · subst hfk
        by_cases hv2 : ht_cv (p i) f = v
        · subst hv2
          exact ⟨by rw [if_neg (by omega), if_pos ⟨by omega, rfl⟩, pk_us], by rw [if_neg (by omega), if_pos ⟨by omega, rfl⟩, pk_us]⟩
        · exact ⟨by rw [if_neg (by omega), if_neg (by omega), pk_un (by omega)], by rw [if_neg (by omega), if_neg (by omega), pk_un (by omega)]⟩
      · rw [pk_un (by omega), pk_un (by omega)]
        by_cases hv2 : k + 1 ≤ f ∧ ht_cv (p i) f = v
        · exact ⟨by rw [if_pos hv2, if_pos (by omega)], by rw [if_pos hv2, if_pos (by omega)]⟩
        · exact ⟨by rw [if_neg hv2, if_neg (by omega)], by rw [if_neg hv2, if_neg (by omega)]⟩
    · obtain ⟨n, rfl⟩ : ∃ k, n = k + 1 := ⟨n - 1, by omega⟩
      have hi24 : vp_in (nI i) 24 := vp_in_nI hi (by omega)
      have hin : vp_in (nI (m * 24 + k * 8 + ht_cv (p i) k)) 168 := vp_in_nI (by omega) (by omega)
      refine br_f (nI_ge (a := k) (b := 3) (by omega) (by decide)) ?_
      rw [nI_clamp (by omega)]
      refine ⟨hi24, ht_fo ?_⟩
      rw [ht_cle, ht_at3]
      refine nm_e ?_
      rw [nI_clamp (by omega)]
      exact ⟨hin, hin, nm_e ⟨hin, hi24, hin, nm_e (nm_r (nI_1 k) (hw post n (by omega) h))⟩⟩
theorem ht_xar {m i : Nat} (hm : m < 7) (hi : i < 24) : ∃ cr' cs' : Nat → Int32, ht_KP m cr cr' ∧ ht_KP m cs cs' ∧ (∀ f v, f < 3 → v < 8 → cr' (m * 24 + f * 8 + v) = (if ht_cv (p i) f = v then cr (m * 24 + f * 8 + v) + 1 else cr (m * 24 + f * 8 + v)) ∧ cs' (m * 24 + f * 8 + v) = (if ht_cv (p i) f = v then cs (m * 24 + f * 8 + v) + rs i else cs (m * 24 + f * 8 + v))) ∧ ∀ (post : SX → Prop), post (nI l, nI c, nI t, qf, qb, qt, qd, p, g, sf, sb, lv, nr, rs, w, cr', cs') → wpX_addRow post (nI l, nI c, nI t, qf, qb, qt, qd, p, g, sf, sb, lv, nr, rs, w, cr, cs) (nI m) (nI i) := by
  obtain ⟨cr', cs', k1, k2, hs, hw⟩ := ht_xal (l := l) (c := c) (t := t) (qf := qf) (qb := qb) (qt := qt) (qd := qd) (p := p) (g := g) (sf := sf) (sb := sb) (lv := lv) (nr := nr) (rs := rs) (w := w) hm hi 3 0 cr cs (by omega)
  refine ⟨cr', cs', k1, k2, fun f v hf hv => ?_, fun post h => Exists.intro 4 (hw post 4 (by omega) h)⟩
  have h := hs f v hf hv
  by_cases hv2 : ht_cv (p i) f = v
  · rw [if_pos ⟨by omega, hv2⟩, if_pos ⟨by omega, hv2⟩] at h
    rw [if_pos hv2, if_pos hv2]
    exact h
  · rw [if_neg (fun z => hv2 z.2), if_neg (fun z => hv2 z.2)] at h
    rw [if_neg hv2, if_neg hv2]
    exact h
theorem ht_HCs {i m : Nat} {cr cs cr' cs' : Nat → Int32} (hw : w i = nI m) (h : ht_HC p w rs i cr cs m) (hs : ∀ f v, f < 3 → v < 8 → cr' (m * 24 + f * 8 + v) = (if ht_cv (p i) f = v then cr (m * 24 + f * 8 + v) + 1 else cr (m * 24 + f * 8 + v)) ∧ cs' (m * 24 + f * 8 + v) = (if ht_cv (p i) f = v then cs (m * 24 + f * 8 + v) + rs i else cs (m * 24 + f * 8 + v))) : ht_HC p w rs (i + 1) cr' cs' m := by
  intro f v hf hv
  obtain ⟨a1, a2⟩ := hs f v hf hv
  obtain ⟨b1, b2⟩ := h f v hf hv
  rw [a1, a2, b1, b2, ht_Hn, ht_Hn]
  by_cases hv2 : ht_cv (p i) f = v
  · rw [if_pos hv2, if_pos hv2, if_pos ⟨hw, hv2⟩, if_pos ⟨hw, hv2⟩, Int32.ofInt_add, Int32.ofInt_add, Int32.ofInt_toInt]
    exact ⟨rfl, rfl⟩
  · rw [if_neg hv2, if_neg hv2, if_neg (fun z => hv2 z.2), if_neg (fun z => hv2 z.2), Int.add_zero, Int.add_zero]
    exact ⟨rfl, rfl⟩
theorem ht_HCn {i m : Nat} (hw : ¬ w i = nI m) (h : ht_HC p w rs i cr cs m) : ht_HC p w rs (i + 1) cr cs m := by
  intro f v hf hv
  rw [ht_Hn, ht_Hn, if_neg (fun z => hw z.1), if_neg (fun z => hw z.1), Int.add_zero, Int.add_zero]
  exact h f v hf hv
theorem ht_xfl {m : Nat} (hm : m < 7) (hc : c ≤ 24) : ∀ d i (cr cs : Nat → Int32), i + d = c → ht_HC p w rs i cr cs m → ∃ cr' cs' : Nat → Int32, ht_HC p w rs c cr' cs' m ∧ ht_KP m cr cr' ∧ ht_KP m cs cs' ∧ ∀ (post : SX → Prop) (n : Nat), d < n → post (nI l, nI c, nI t, qf, qb, qt, qd, p, g, sf, sb, lv, nr, rs, w, cr', cs') → wX_fromRows_7 post (nI m) n (nI i) (nI l) (nI c) (nI t) qf qb qt qd p g sf sb lv nr rs w cr cs := by
  intro d
  induction d with
  | zero =>
    intro i cr cs hi hH
    obtain rfl : i = c := by omega
    refine ⟨cr, cs, hH, ht_KPr m cr, ht_KPr m cs, fun post n hn h => ?_⟩
    obtain ⟨n, rfl⟩ : ∃ k, n = k + 1 := ⟨n - 1, by omega⟩
    exact br_t (nI_le (by omega) (by omega)) h
  | succ d ih =>
    intro i cr cs hi hH
    by_cases hw : w i = nI m
    · obtain ⟨cr1, cs1, k1, k2, hs, hA⟩ := ht_xar (l := l) (c := c) (t := t) (qf := qf) (qb := qb) (qt := qt) (qd := qd) (p := p) (g := g) (sf := sf) (sb := sb) (lv := lv) (nr := nr) (rs := rs) (w := w) (cr := cr) (cs := cs) hm (i := i) (by omega)
      obtain ⟨cr', cs', hH', k3, k4, hL⟩ := ih (i + 1) cr1 cs1 (by omega) (ht_HCs hw hH hs)
      refine ⟨cr', cs', hH', ht_KPt k1 k3, ht_KPt k2 k4, fun post n hn h => ?_⟩
      obtain ⟨n, rfl⟩ : ∃ k, n = k + 1 := ⟨n - 1, by omega⟩
      refine br_f (nI_ge (by omega) (by omega)) ?_
      rw [nI_clamp (by omega)]
      refine ⟨vp_in_nI (by omega) (by omega), br_t hw (hA _ ?_)⟩
      exact nm_r (nI_1 i) (hL post n (by omega) h)
    · obtain ⟨cr', cs', hH', k3, k4, hL⟩ := ih (i + 1) cr cs (by omega) (ht_HCn hw hH)
      refine ⟨cr', cs', hH', k3, k4, fun post n hn h => ?_⟩
      obtain ⟨n, rfl⟩ : ∃ k, n = k + 1 := ⟨n - 1, by omega⟩
      refine br_f (nI_ge (by omega) (by omega)) ?_
      rw [nI_clamp (by omega)]
      exact ⟨vp_in_nI (by omega) (by omega), br_f hw (nm_r (nI_1 i) (hL post n (by omega) h))⟩
theorem ht_xfr {m : Nat} (hm : m < 7) (hc : c ≤ 24) : ∃ cr' cs' : Nat → Int32, ht_HC p w rs c cr' cs' m ∧ ht_KP m cr cr' ∧ ht_KP m cs cs' ∧ ∀ (post : SX → Prop), post (nI l, nI c, nI t, qf, qb, qt, qd, p, g, sf, sb, lv, nr, rs, w, cr', cs') → wpX_fromRows post (nI l, nI c, nI t, qf, qb, qt, qd, p, g, sf, sb, lv, nr, rs, w, cr, cs) (nI m) := by
  have h0 : ht_HC p w rs 0 (ht_fr (m * 24) 24 (fun _ => 0) cr) (ht_fr (m * 24) 24 (fun _ => 0) cs) m := by
    intro f v hf hv
    rw [Nat.add_assoc, ht_fri (by omega), ht_fri (by omega)]
    exact ⟨rfl, rfl⟩
  obtain ⟨cr', cs', hH', k3, k4, hL⟩ := ht_xfl (l := l) (c := c) (t := t) (qf := qf) (qb := qb) (qt := qt) (qd := qd) (p := p) (g := g) (sf := sf) (sb := sb) (lv := lv) (nr := nr) (rs := rs) (w := w) hm hc c 0 _ _ (by omega) h0
  refine ⟨cr', cs', hH', ht_KPt ht_KPf k3, ht_KPt ht_KPf k4, fun post h => ?_⟩
  unfold wpX_fromRows
  refine ht_xcc hm ?_
  exact Exists.intro (c + 1) (hL post (c + 1) (by omega) h)
theorem ht_xfp {post : SX → Prop} {a b d : Nat} (ha : a < 7) (hb : b < 7) (hd : d < 7) (hab : a ≠ b) (had : a ≠ d) (h : post (nI l, nI c, nI t, qf, qb, qt, qd, p, g, sf, sb, lv, nr, rs, w, ht_fr (a * 24) 24 (fun q => cr (b * 24 + q) - cr (d * 24 + q)) cr, ht_fr (a * 24) 24 (fun q => cs (b * 24 + q) - cs (d * 24 + q)) cs)) : wpX_fromParent post (nI l, nI c, nI t, qf, qb, qt, qd, p, g, sf, sb, lv, nr, rs, w, cr, cs) (nI a) (nI b) (nI d) := by
  have L : ∀ e q n, q + e = 24 → e < n → wX_fromParent_3 post (nI a) (nI b) (nI d) (nI l) (nI c) (nI t) qf qb qt qd n (nI q) p g sf sb lv nr rs w (ht_fr (a * 24) q (fun q => cr (b * 24 + q) - cr (d * 24 + q)) cr) (ht_fr (a * 24) q (fun q => cs (b * 24 + q) - cs (d * 24 + q)) cs) := by
    intro e
    induction e with
    | zero =>
      intro q n hq hn
      obtain ⟨n, rfl⟩ : ∃ k, n = k + 1 := ⟨n - 1, by omega⟩
      obtain rfl : q = 24 := by omega
      exact br_t (nI_le (a := 24) (b := 24) (by omega) (by decide)) h
    | succ e ih =>
      intro q n hq hn
      obtain ⟨n, rfl⟩ : ∃ k, n = k + 1 := ⟨n - 1, by omega⟩
      have ia : vp_in (nI (a * 24 + q)) 168 := vp_in_nI (by omega) (by omega)
      have ib : vp_in (nI (b * 24 + q)) 168 := vp_in_nI (by omega) (by omega)
      have ic : vp_in (nI (d * 24 + q)) 168 := vp_in_nI (by omega) (by omega)
      refine br_f (nI_ge (a := q) (b := 24) (by omega) (by decide)) ?_
      rw [ht_at2 a q, ht_at2 b q, ht_at2 d q, nI_clamp (n := a * 24 + q) (by omega), nI_clamp (n := b * 24 + q) (by omega), nI_clamp (n := d * 24 + q) (by omega)]
      exact ⟨ib, ic, ia, nm_r (ht_frs _ _ _ _ (by rw [ht_fro (by omega), ht_fro (by omega)])) ⟨ib, ic, ia, nm_r (ht_frs _ _ _ _ (by rw [ht_fro (by omega), ht_fro (by omega)])) (nm_r (nI_1 q) (ih (q + 1) n (by omega) (by omega)))⟩⟩
  have h0 := L 24 0 25 (by omega) (by omega)
  rw [ht_fr0, ht_fr0] at h0
  exact Exists.intro 25 h0
theorem ht_xri {post : Int32 → Prop} {m : Nat} (hm : m < 7) (hH : ht_HC p w rs c cr cs m) (h : post (Int32.ofInt (ht_K (fun _ => 1) p w m 0 8 c))) : wpX_rowsIn post (nI l, nI c, nI t, qf, qb, qt, qd, p, g, sf, sb, lv, nr, rs, w, cr, cs) (nI m) := by
  have L : ∀ d v n, v + d = 8 → d < n → wX_rowsIn_4 post (nI m) (nI l) (nI c) (nI t) qf qb qt qd p g sf sb lv nr rs w cr cs n (Int32.ofInt (ht_K (fun _ => 1) p w m 0 v c)) (nI v) := by
    intro d
    induction d with
    | zero =>
      intro v n hv hn
      obtain ⟨n, rfl⟩ : ∃ k, n = k + 1 := ⟨n - 1, by omega⟩
      obtain rfl : v = 8 := by omega
      exact br_t (nI_le (a := 8) (b := 8) (by omega) (by decide)) h
    | succ d ih =>
      intro v n hv hn
      obtain ⟨n, rfl⟩ : ∃ k, n = k + 1 := ⟨n - 1, by omega⟩
      refine br_f (nI_ge (a := v) (b := 8) (by omega) (by decide)) ?_
      have e := (hH 0 v (by omega) (by omega)).1
      rw [Nat.zero_mul, Nat.add_zero] at e
      rw [ht_at2, nI_clamp (by omega), e]
      exact ⟨vp_in_nI (by omega) (by omega), nm_r (by rw [ht_Ks, Int32.ofInt_add]) (nm_r (nI_1 v) (ih (v + 1) n (by omega) (by omega)))⟩
  have h0 := L 8 0 9 (by omega) (by omega)
  rw [ht_K0] at h0
  exact Exists.intro 9 h0
theorem ht_xsi {post : Int32 → Prop} {m : Nat} (hm : m < 7) (hH : ht_HC p w rs c cr cs m) (h : post (Int32.ofInt (ht_K (fun j => (rs j).toInt) p w m 0 8 c))) : wpX_sumIn post (nI l, nI c, nI t, qf, qb, qt, qd, p, g, sf, sb, lv, nr, rs, w, cr, cs) (nI m) := by
  have L : ∀ d v n, v + d = 8 → d < n → wX_sumIn_4 post (nI m) (nI l) (nI c) (nI t) qf qb qt qd p g sf sb lv nr rs w cr cs n (Int32.ofInt (ht_K (fun j => (rs j).toInt) p w m 0 v c)) (nI v) := by
    intro d
    induction d with
    | zero =>
      intro v n hv hn
      obtain ⟨n, rfl⟩ : ∃ k, n = k + 1 := ⟨n - 1, by omega⟩
      obtain rfl : v = 8 := by omega
      exact br_t (nI_le (a := 8) (b := 8) (by omega) (by decide)) h
    | succ d ih =>
      intro v n hv hn
      obtain ⟨n, rfl⟩ : ∃ k, n = k + 1 := ⟨n - 1, by omega⟩
      refine br_f (nI_ge (a := v) (b := 8) (by omega) (by decide)) ?_
      have e := (hH 0 v (by omega) (by omega)).2
      rw [Nat.zero_mul, Nat.add_zero] at e
      rw [ht_at2, nI_clamp (by omega), e]
      exact ⟨vp_in_nI (by omega) (by omega), nm_r (by rw [ht_Ks, Int32.ofInt_add]) (nm_r (nI_1 v) (ih (v + 1) n (by omega) (by omega)))⟩
  have h0 := L 8 0 9 (by omega) (by omega)
  rw [ht_K0] at h0
  exact Exists.intro 9 h0
end
end
section
/-! the reference's counts and sums over the rows -/
section
variable {l c t : Nat} {qf qb : Int32} {qt qd : Int64} {p g sf sb lv nr rs w cr cs : Nat → Int32}
theorem ht_yrl {post : Int32 → Prop} {m f b : Nat} (hc : c ≤ 24) (hb : b < 8) (h : post (Int32.ofInt (ht_K (fun _ => 1) p w m f (b + 1) c))) : ∀ d i n, i + d = c → d < n → wY_rowsOf_6 post (nI m) (nI f) (nI b) (nI l) (nI c) (nI t) p g sf sb lv nr rs w n (Int32.ofInt (ht_K (fun _ => 1) p w m f (b + 1) i)) (nI i) := by
  intro d
  induction d with
  | zero =>
    intro i n hi hn
    obtain ⟨n, rfl⟩ : ∃ k, n = k + 1 := ⟨n - 1, by omega⟩
    obtain rfl : i = c := by omega
    exact br_t (nI_le (by omega) (by omega)) h
  | succ d ih =>
    intro i n hi hn
    obtain ⟨n, rfl⟩ : ∃ k, n = k + 1 := ⟨n - 1, by omega⟩
    have hin : vp_in (nI i) 24 := vp_in_nI (by omega) (by omega)
    have h8 := ht_cv8 (p i) f
    have K := ih (i + 1) n (by omega) (by omega)
    rw [ht_Kn] at K
    refine br_f (nI_ge (by omega) (by omega)) ?_
    rw [nI_clamp (by omega)]
    by_cases hw : w i = nI m
    · refine ⟨hin, br_t hw ⟨hin, ht_yc ?_⟩⟩
      rw [ht_cle]
      by_cases hv : ht_cv (p i) f < b + 1
      · rw [if_pos ⟨hw, hv⟩, Int32.ofInt_add] at K
        exact br_f (nI_nlt (by omega) (by omega)) (nm_e (nm_r (nI_1 i) K))
      · rw [if_neg (fun z => hv z.2), Int.add_zero] at K
        exact br_t (nI_lt (by omega) (by omega)) (nm_r (nI_1 i) K)
    · rw [if_neg (fun z => hw z.1), Int.add_zero] at K
      exact ⟨hin, br_f hw (nm_r (nI_1 i) K)⟩
theorem ht_yro {post : Int32 → Prop} {m f b : Nat} (hc : c ≤ 24) (hb : b < 8) (h : post (Int32.ofInt (ht_K (fun _ => 1) p w m f (b + 1) c))) : wpY_rowsOf post (nI l, nI c, nI t, p, g, sf, sb, lv, nr, rs, w) (nI m) (nI f) (nI b) :=
  Exists.intro (c + 1) (ht_yrl hc hb h c 0 (c + 1) (by omega) (by omega))
theorem ht_ysl {post : Int64 → Prop} {m f b : Nat} (hc : c ≤ 24) (hb : b < 8) (h : post (Int64.ofInt (ht_K (fun j => (rs j).toInt) p w m f (b + 1) c))) : ∀ d i n, i + d = c → d < n → wY_sumOf_6 post (nI m) (nI f) (nI b) (nI l) (nI c) (nI t) p g sf sb lv nr rs w n (Int64.ofInt (ht_K (fun j => (rs j).toInt) p w m f (b + 1) i)) (nI i) := by
  intro d
  induction d with
  | zero =>
    intro i n hi hn
    obtain ⟨n, rfl⟩ : ∃ k, n = k + 1 := ⟨n - 1, by omega⟩
    obtain rfl : i = c := by omega
    exact br_t (nI_le (by omega) (by omega)) h
  | succ d ih =>
    intro i n hi hn
    obtain ⟨n, rfl⟩ : ∃ k, n = k + 1 := ⟨n - 1, by omega⟩
    have hin : vp_in (nI i) 24 := vp_in_nI (by omega) (by omega)
    have h8 := ht_cv8 (p i) f
    have K := ih (i + 1) n (by omega) (by omega)
    rw [ht_Kn] at K
    refine br_f (nI_ge (by omega) (by omega)) ?_
    rw [nI_clamp (by omega)]
    by_cases hw : w i = nI m
    · refine ⟨hin, br_t hw ⟨hin, ht_yc ?_⟩⟩
      rw [ht_cle]
      by_cases hv : ht_cv (p i) f < b + 1
      · rw [if_pos ⟨hw, hv⟩, Int64.ofInt_add, Int64.ofInt_int32ToInt] at K
        exact br_f (nI_nlt (by omega) (by omega)) ⟨hin, nm_e (nm_r (nI_1 i) K)⟩
      · rw [if_neg (fun z => hv z.2), Int.add_zero] at K
        exact br_t (nI_lt (by omega) (by omega)) (nm_r (nI_1 i) K)
    · rw [if_neg (fun z => hw z.1), Int.add_zero] at K
      exact ⟨hin, br_f hw (nm_r (nI_1 i) K)⟩
theorem ht_yso {post : Int64 → Prop} {m f b : Nat} (hc : c ≤ 24) (hb : b < 8) (h : post (Int64.ofInt (ht_K (fun j => (rs j).toInt) p w m f (b + 1) c))) : wpY_sumOf post (nI l, nI c, nI t, p, g, sf, sb, lv, nr, rs, w) (nI m) (nI f) (nI b) :=
  Exists.intro (c + 1) (ht_ysl hc hb h c 0 (c + 1) (by omega) (by omega))
end
end
section
/-! the search for the best split, the two sides in lockstep -/
theorem ht_sq (s : Int) : 0 ≤ s * s := by
  rw [← Int.natAbs_mul_self]
  exact Int.natCast_nonneg _
theorem ht_tr {x1 y1 x2 y2 x3 y3 : Int} (h1 : 0 < y1) (h2 : 0 < y2) (h3 : 0 < y3) (a : x1 * y2 ≤ x2 * y1) (b : x2 * y3 < x3 * y2) : x1 * y3 < x3 * y1 := by
  apply Int.lt_of_not_ge
  intro h
  have e1 : x3 * y1 * y2 ≤ x1 * y3 * y2 := Int.mul_le_mul_of_nonneg_right h (by omega)
  have e2 : x1 * y2 * y3 ≤ x2 * y1 * y3 := Int.mul_le_mul_of_nonneg_right a (by omega)
  have e3 : x2 * y3 * y1 < x3 * y2 * y1 := Int.mul_lt_mul_of_pos_right b h1
  have r1 : x1 * y3 * y2 = x1 * y2 * y3 := Int.mul_right_comm x1 y3 y2
  have r2 : x2 * y1 * y3 = x2 * y3 * y1 := Int.mul_right_comm x2 y1 y3
  have r3 : x3 * y2 * y1 = x3 * y1 * y2 := Int.mul_right_comm x3 y2 y1
  omega
def ht_tp (N S a s : Int) : Int := s * s * (N - a) + (S - s) * (S - s) * a
def ht_bo (N a : Int) : Int := a * (N - a)
theorem ht_tpb {N S a s : Int} (hN : 0 ≤ N ∧ N ≤ 24) (hS : -9600 ≤ S ∧ S ≤ 9600) (ha : 1 ≤ a) (ha2 : 1 ≤ N - a) (hs : -9600 ≤ s ∧ s ≤ 9600) : 0 ≤ ht_tp N S a s ∧ ht_tp N S a s ≤ 20000000000 ∧ 0 < ht_bo N a ∧ ht_bo N a ≤ 600 := by
  unfold ht_tp ht_bo
  have s1 : -(9600 * 9600) ≤ s * s ∧ s * s ≤ 9600 * 9600 := ht_mulb hs hs
  have s2 : -(19200 * 19200) ≤ (S - s) * (S - s) ∧ (S - s) * (S - s) ≤ 19200 * 19200 := ht_mulb (by omega) (by omega)
  have q1 := ht_sq s
  have q2 := ht_sq (S - s)
  have b1 : -(9600 * 9600 * 24) ≤ s * s * (N - a) ∧ s * s * (N - a) ≤ 9600 * 9600 * 24 := ht_mulb s1 (by omega)
  have b2 : -(19200 * 19200 * 24) ≤ (S - s) * (S - s) * a ∧ (S - s) * (S - s) * a ≤ 19200 * 19200 * 24 := ht_mulb s2 (by omega)
  have c1 : 0 ≤ s * s * (N - a) := Int.mul_nonneg q1 (by omega)
  have c2 : 0 ≤ (S - s) * (S - s) * a := Int.mul_nonneg q2 (by omega)
  have d1 : -(24 * 24) ≤ a * (N - a) ∧ a * (N - a) ≤ 24 * 24 := ht_mulb (by omega) (by omega)
  have d2 : 0 < a * (N - a) := Int.mul_pos (by omega) (by omega)
  refine ⟨by omega, by omega, d2, by omega⟩
/-- the two bests: the component's (qf ..), the reference's (yt ..), which was yf0, sb0 at the search's start -/
def ht_BR (N S : Int) (k : Nat) (yf0 sb0 : Nat → Int32) (qf qb : Int32) (qt qd yt yd : Int64) (yf yb : Nat → Int32) : Prop :=
  (yt = Int64.ofInt (S * S) ∧ yd = Int64.ofInt N ∧ yf = yf0 ∧ yb = sb0 ∧ (qf = -1 ∨ (¬ qf < 0 ∧ ∃ T D : Int, qt = Int64.ofInt T ∧ qd = Int64.ofInt D ∧ 0 ≤ T ∧ T ≤ 20000000000 ∧ 0 < D ∧ D ≤ 600 ∧ T * N ≤ S * S * D))) ∨ (∃ (T D : Int) (f b : Nat), f < 3 ∧ qf = nI f ∧ qb = nI b ∧ qt = Int64.ofInt T ∧ qd = Int64.ofInt D ∧ 0 ≤ T ∧ T ≤ 20000000000 ∧ 0 < D ∧ D ≤ 600 ∧ S * S * D < T * N ∧ yt = qt ∧ yd = qd ∧ yf = upd yf0 k qf ∧ yb = upd sb0 k qb)
theorem ht_nneg {f : Nat} (h : f < 3) : ¬ nI f < 0 := nI_pos (by omega)
theorem ht_cmp {T d U D : Int} (hT : 0 ≤ T ∧ T ≤ 20000000000) (hd : 0 ≤ d ∧ d ≤ 600) (hU : 0 ≤ U ∧ U ≤ 20000000000) (hD : 0 ≤ D ∧ D ≤ 600) : (Int64.ofInt T * Int64.ofInt d < Int64.ofInt U * Int64.ofInt D ↔ T * d < U * D) ∧ (Int64.ofInt U * Int64.ofInt D ≤ Int64.ofInt T * Int64.ofInt d ↔ U * D ≤ T * d) := by
  have b1 : -(20000000000 * 600) ≤ T * d ∧ T * d ≤ 20000000000 * 600 := ht_mulb (by omega) (by omega)
  have b2 : -(20000000000 * 600) ≤ U * D ∧ U * D ≤ 20000000000 * 600 := ht_mulb (by omega) (by omega)
  rw [← Int64.ofInt_mul, ← Int64.ofInt_mul]
  exact ⟨ht_lt6 (by omega) (by omega) (by omega) (by omega), ht_le6 (by omega) (by omega) (by omega) (by omega)⟩
theorem ht_step {N S a s : Int} {k : Nat} {yf0 sb0 : Nat → Int32} {qf qb : Int32} {qt qd yt yd : Int64} {yf yb : Nat → Int32} (hN : 0 ≤ N ∧ N ≤ 24) (hS : -9600 ≤ S ∧ S ≤ 9600) (ha : 1 ≤ a) (ha2 : 1 ≤ N - a) (hs : -9600 ≤ s ∧ s ≤ 9600) (h : ht_BR N S k yf0 sb0 qf qb qt qd yt yd yf yb) (f b : Nat) (hf : f < 3) :
    ((qf < 0 ∨ qt * Int64.ofInt (ht_bo N a) < Int64.ofInt (ht_tp N S a s) * qd) ∧ ¬ (Int64.ofInt (ht_tp N S a s) * yd ≤ yt * Int64.ofInt a * Int64.ofInt (N - a)) ∧ ht_BR N S k yf0 sb0 (nI f) (nI b) (Int64.ofInt (ht_tp N S a s)) (Int64.ofInt (ht_bo N a)) (Int64.ofInt (ht_tp N S a s)) (Int64.ofInt (ht_bo N a)) (upd yf k (nI f)) (upd yb k (nI b)))
    ∨ ((qf < 0 ∨ qt * Int64.ofInt (ht_bo N a) < Int64.ofInt (ht_tp N S a s) * qd) ∧ (Int64.ofInt (ht_tp N S a s) * yd ≤ yt * Int64.ofInt a * Int64.ofInt (N - a)) ∧ ht_BR N S k yf0 sb0 (nI f) (nI b) (Int64.ofInt (ht_tp N S a s)) (Int64.ofInt (ht_bo N a)) yt yd yf yb)
    ∨ (¬ (qf < 0 ∨ qt * Int64.ofInt (ht_bo N a) < Int64.ofInt (ht_tp N S a s) * qd) ∧ (Int64.ofInt (ht_tp N S a s) * yd ≤ yt * Int64.ofInt a * Int64.ofInt (N - a))) := by
  obtain ⟨t0, t1, b0, b1⟩ := ht_tpb hN hS ha ha2 hs
  have em : Int64.ofInt a * Int64.ofInt (N - a) = Int64.ofInt (ht_bo N a) := (Int64.ofInt_mul a (N - a)).symm
  rw [Int64.mul_assoc, em]
  generalize ht_tp N S a s = U at *
  generalize ht_bo N a = d at *
  have hss : S * S ≤ 9600 * 9600 := (ht_mulb hS hS).2
  have hss0 := ht_sq S
  have hN0 : 0 < N := by omega
  rcases h with ⟨rfl, rfl, rfl, rfl, hq⟩ | ⟨T, D, f', b', hf', rfl, rfl, rfl, rfl, T0, T1, D0, D1, hlt, rfl, rfl, rfl, rfl⟩
  · have cy := (ht_cmp (T := S * S) (d := d) (U := U) (D := N) (by omega) (by omega) (by omega) (by omega)).2
    rw [cy]
    by_cases hy : U * N ≤ S * S * d
    · by_cases hx : qf < 0 ∨ qt * Int64.ofInt d < Int64.ofInt U * qd
      · exact Or.inr (Or.inl ⟨hx, hy, Or.inl ⟨rfl, rfl, rfl, rfl, Or.inr ⟨ht_nneg hf, U, d, rfl, rfl, t0, t1, b0, b1, hy⟩⟩⟩)
      · exact Or.inr (Or.inr ⟨hx, hy⟩)
    · refine Or.inl ⟨?_, hy, Or.inr ⟨U, d, f, b, hf, rfl, rfl, rfl, rfl, t0, t1, b0, b1, by omega, rfl, rfl, rfl, rfl⟩⟩
      rcases hq with rfl | ⟨hq0, T, D, rfl, rfl, T0, T1, D0, D1, hle⟩
      · exact Or.inl (by decide)
      · refine Or.inr ?_
        rw [(ht_cmp (T := T) (d := d) (U := U) (D := D) (by omega) (by omega) (by omega) (by omega)).1]
        exact ht_tr D0 hN0 b0 hle (by omega)
  · have cc := ht_cmp (T := T) (d := d) (U := U) (D := D) (by omega) (by omega) (by omega) (by omega)
    rw [cc.1, cc.2]
    by_cases hx : T * d < U * D
    · refine Or.inl ⟨Or.inr hx, by omega, Or.inr ⟨U, d, f, b, hf, rfl, rfl, rfl, rfl, t0, t1, b0, b1, ?_, rfl, rfl, ht_uu, ht_uu⟩⟩
      exact ht_tr hN0 D0 b0 (by omega) hx
    · exact Or.inr (Or.inr ⟨fun z => z.elim (ht_nneg hf') hx, by omega⟩)
theorem ht_etp (N S a s : Int) : ((Int64.ofInt s * Int64.ofInt s) * Int64.ofInt (N - a)) + ((Int64.ofInt (S - s) * Int64.ofInt (S - s)) * Int64.ofInt a) = Int64.ofInt (ht_tp N S a s) := by
  unfold ht_tp
  simp only [Int64.ofInt_add, Int64.ofInt_mul]
theorem ht_ebo (N a : Int) : Int64.ofInt a * Int64.ofInt (N - a) = Int64.ofInt (ht_bo N a) := (Int64.ofInt_mul a (N - a)).symm
section
variable {l c t : Nat} {qf qb : Int32} {qt qd : Int64} {p g sf sb lv nr rs w cr cs : Nat → Int32}
theorem ht_xtl {post : SX → Prop} {f b : Int32} {N S a s : Int} (hl : l ≤ 12) (hN : 0 ≤ N ∧ N ≤ 24) (ha : 0 ≤ a ∧ a ≤ 24) (hskip : a < l ∨ N - a < l → post (nI l, nI c, nI t, qf, qb, qt, qd, p, g, sf, sb, lv, nr, rs, w, cr, cs)) (htake : (l : Int) ≤ a → (l : Int) ≤ N - a → (qf < 0 ∨ qt * Int64.ofInt (ht_bo N a) < Int64.ofInt (ht_tp N S a s) * qd) → post (nI l, nI c, nI t, f, b, Int64.ofInt (ht_tp N S a s), Int64.ofInt (ht_bo N a), p, g, sf, sb, lv, nr, rs, w, cr, cs)) (hkeep : (l : Int) ≤ a → (l : Int) ≤ N - a → ¬ (qf < 0 ∨ qt * Int64.ofInt (ht_bo N a) < Int64.ofInt (ht_tp N S a s) * qd) → post (nI l, nI c, nI t, qf, qb, qt, qd, p, g, sf, sb, lv, nr, rs, w, cr, cs)) : wpX_tryLeft post (nI l, nI c, nI t, qf, qb, qt, qd, p, g, sf, sb, lv, nr, rs, w, cr, cs) f b (Int64.ofInt a) (Int64.ofInt s) (Int64.ofInt N) (Int64.ofInt S) := by
  unfold wpX_tryLeft
  dsimp only
  rw [ht_nI6 (by omega)]
  refine nm_r (Int64.ofInt_sub N a).symm (nm_r (Int64.ofInt_sub S s).symm (br_c (fun z => ?_) (fun z => br_c (fun z2 => ?_) (fun z2 => ?_))))
  · rw [ht_lt6 (by omega) (by omega) (by omega) (by omega)] at z
    exact hskip (Or.inl z)
  · rw [ht_lt6 (by omega) (by omega) (by omega) (by omega)] at z
    rw [ht_le6 (by omega) (by omega) (by omega) (by omega)] at z2
    refine nm_r (ht_etp N S a s) (nm_r (ht_ebo N a) (br_c (fun q => ?_) (fun q => br_c (fun r => ?_) (fun r => ?_))))
    · exact htake (by omega) z2 (Or.inl q)
    · exact htake (by omega) z2 (Or.inr r)
    · exact hkeep (by omega) z2 (fun y => y.elim q r)
  · rw [ht_le6 (by omega) (by omega) (by omega) (by omega)] at z2
    exact hskip (Or.inr (by omega))
theorem ht_xs1 {post : SX → Prop} {J : Int32 → Int32 → Int32 → Int32 → Int32 → Int32 → Int64 → Int64 → (Nat → Int32) → (Nat → Int32) → (Nat → Int32) → (Nat → Int32) → (Nat → Int32) → (Nat → Int32) → (Nat → Int32) → (Nat → Int32) → (Nat → Int32) → (Nat → Int32) → Prop} {m f b n : Nat} {N S a s : Int} (hl : l ≤ 12) (hm : m < 7) (hf : f < 3) (hb : b < 7) (hH : ht_HC p w rs c cr cs m) (hN : 0 ≤ N ∧ N ≤ 24) (hS : -9600 ≤ S ∧ S ≤ 9600) (ha : 0 ≤ a ∧ a ≤ 24) (hs : -9600 ≤ s ∧ s ≤ 9600) (ea : ht_K (fun _ => 1) p w m f (b + 1) c = a) (es : ht_K (fun j => (rs j).toInt) p w m f (b + 1) c = s)
    (hskip : a < l ∨ N - a < l → wX_findSplit_23 post J (nI m) (Int32.ofInt N) (Int32.ofInt S) (nI f) n (Int32.ofInt a) (Int32.ofInt s) (nI (b + 1)) (nI l) (nI c) (nI t) qf qb qt qd p g sf sb lv nr rs w cr cs)
    (htake : (l : Int) ≤ a → (l : Int) ≤ N - a → (qf < 0 ∨ qt * Int64.ofInt (ht_bo N a) < Int64.ofInt (ht_tp N S a s) * qd) → wX_findSplit_23 post J (nI m) (Int32.ofInt N) (Int32.ofInt S) (nI f) n (Int32.ofInt a) (Int32.ofInt s) (nI (b + 1)) (nI l) (nI c) (nI t) (nI f) (nI b) (Int64.ofInt (ht_tp N S a s)) (Int64.ofInt (ht_bo N a)) p g sf sb lv nr rs w cr cs)
    (hkeep : (l : Int) ≤ a → (l : Int) ≤ N - a → ¬ (qf < 0 ∨ qt * Int64.ofInt (ht_bo N a) < Int64.ofInt (ht_tp N S a s) * qd) → wX_findSplit_23 post J (nI m) (Int32.ofInt N) (Int32.ofInt S) (nI f) n (Int32.ofInt a) (Int32.ofInt s) (nI (b + 1)) (nI l) (nI c) (nI t) qf qb qt qd p g sf sb lv nr rs w cr cs) :
    wX_findSplit_23 post J (nI m) (Int32.ofInt N) (Int32.ofInt S) (nI f) (n + 1) (Int32.ofInt (ht_K (fun _ => 1) p w m f b c)) (Int32.ofInt (ht_K (fun j => (rs j).toInt) p w m f b c)) (nI b) (nI l) (nI c) (nI t) qf qb qt qd p g sf sb lv nr rs w cr cs := by
  have hin : vp_in (nI (m * 24 + f * 8 + b)) 168 := vp_in_nI (by omega) (by omega)
  obtain ⟨e1, e2⟩ := hH f b hf (by omega)
  refine br_f (nI_ge (a := b) (b := 7) (by omega) (by decide)) ?_
  rw [ht_at3, nI_clamp (by omega), e1, e2]
  refine ⟨hin, nm_r (e' := Int32.ofInt a) (by rw [← ea, ht_Ks, Int32.ofInt_add]) ⟨hin, nm_r (e' := Int32.ofInt s) (by rw [← es, ht_Ks, Int32.ofInt_add]) ?_⟩⟩
  rw [ht_o36 (z := a) (by omega) (by omega), ht_o36 (z := s) (by omega) (by omega), ht_o36 (z := N) (by omega) (by omega), ht_o36 (z := S) (by omega) (by omega)]
  exact ht_xtl hl hN ha (fun z => nm_r (nI_1 b) (hskip z)) (fun z1 z2 z3 => nm_r (nI_1 b) (htake z1 z2 z3)) (fun z1 z2 z3 => nm_r (nI_1 b) (hkeep z1 z2 z3))
theorem ht_ys1 {post : SY → Prop} {J : Int64 → Int64 → Int32 → (Nat → Int32) → (Nat → Int32) → (Nat → Int32) → (Nat → Int32) → (Nat → Int32) → (Nat → Int32) → (Nat → Int32) → (Nat → Int32) → Prop} {m f b n k : Nat} {N S a s : Int} {yt yd : Int64} {yf yb : Nat → Int32} (hl : l ≤ 12) (hc : c ≤ 24) (hk : k < 28) (hb : b < 7) (hN : 0 ≤ N ∧ N ≤ 24) (ha : 0 ≤ a ∧ a ≤ 24) (ea : ht_K (fun _ => 1) p w m f (b + 1) c = a) (es : ht_K (fun j => (rs j).toInt) p w m f (b + 1) c = s)
    (hskip : a < l ∨ N - a < l → wY_split_50 post J (nI t) (nI m) (Int64.ofInt N) (Int64.ofInt S) (nI k) (nI f) (nI l) (nI c) (nI t) n yt yd (nI (b + 1)) p g yf yb lv nr rs w)
    (htake : (l : Int) ≤ a → (l : Int) ≤ N - a → ¬ (Int64.ofInt (ht_tp N S a s) * yd ≤ yt * Int64.ofInt a * Int64.ofInt (N - a)) → wY_split_50 post J (nI t) (nI m) (Int64.ofInt N) (Int64.ofInt S) (nI k) (nI f) (nI l) (nI c) (nI t) n (Int64.ofInt (ht_tp N S a s)) (Int64.ofInt (ht_bo N a)) (nI (b + 1)) p g (upd yf k (nI f)) (upd yb k (nI b)) lv nr rs w)
    (hkeep : (l : Int) ≤ a → (l : Int) ≤ N - a → (Int64.ofInt (ht_tp N S a s) * yd ≤ yt * Int64.ofInt a * Int64.ofInt (N - a)) → wY_split_50 post J (nI t) (nI m) (Int64.ofInt N) (Int64.ofInt S) (nI k) (nI f) (nI l) (nI c) (nI t) n yt yd (nI (b + 1)) p g yf yb lv nr rs w) :
    wY_split_50 post J (nI t) (nI m) (Int64.ofInt N) (Int64.ofInt S) (nI k) (nI f) (nI l) (nI c) (nI t) (n + 1) yt yd (nI b) p g yf yb lv nr rs w := by
  have hin : vp_in (nI k) 28 := vp_in_nI hk (by omega)
  refine br_f (nI_ge (a := b) (b := 7) (by omega) (by decide)) (ht_yro hc (by omega) (ht_yso hc (by omega) ?_))
  rw [ea, es, ht_o36 (z := a) (by omega) (by omega), ht_nI6 (by omega)]
  refine nm_r (Int64.ofInt_sub N a).symm (nm_r (Int64.ofInt_sub S s).symm (nm_r (ht_etp N S a s) (br_c (fun z => ?_) (fun z => br_c (fun z2 => ?_) (fun z2 => br_c (fun z3 => ?_) (fun z3 => nm_r (ht_ebo N a) ?_))))))
  · rw [ht_lt6 (by omega) (by omega) (by omega) (by omega)] at z
    exact nm_r (nI_1 b) (hskip (Or.inl z))
  · rw [ht_lt6 (by omega) (by omega) (by omega) (by omega)] at z2
    exact nm_r (nI_1 b) (hskip (Or.inr z2))
  · rw [ht_lt6 (by omega) (by omega) (by omega) (by omega)] at z
    rw [ht_lt6 (by omega) (by omega) (by omega) (by omega)] at z2
    exact nm_r (nI_1 b) (hkeep (by omega) (by omega) z3)
  · rw [ht_lt6 (by omega) (by omega) (by omega) (by omega)] at z
    rw [ht_lt6 (by omega) (by omega) (by omega) (by omega)] at z2
    rw [nI_clamp (by omega)]
    exact ⟨hin, nm_e ⟨hin, nm_e (nm_r (nI_1 b) (htake (by omega) (by omega) z3))⟩⟩
end
end
section
/-! the two searches in lockstep: inner loops over the bounds, outer loops over the features -/
section
variable {l c t : Nat} {qf qb : Int32} {qt qd : Int64} {p g sf sb lv nr rs w cr cs : Nat → Int32}
theorem ht_in7 {m f k : Nat} {N S : Int} {yf0 sb0 : Nat → Int32} (hl : l ≤ 12) (hl1 : 1 ≤ l) (hc : c ≤ 24) (hm : m < 7) (hk : k < 28) (hf : f < 3) (hH : ht_HC p w rs c cr cs m) (hr : ∀ i, i < c → -400 ≤ (rs i).toInt ∧ (rs i).toInt ≤ 400) (hN : 0 ≤ N ∧ N ≤ 24) (hS : -9600 ≤ S ∧ S ≤ 9600) : ∀ d b, b + d = 7 → ∀ (qf qb : Int32) (qt qd yt yd : Int64) (yf yb : Nat → Int32), ht_BR N S k yf0 sb0 qf qb qt qd yt yd yf yb → ∃ (qf' qb' : Int32) (qt' qd' yt' yd' : Int64) (yf' yb' : Nat → Int32), ht_BR N S k yf0 sb0 qf' qb' qt' qd' yt' yd' yf' yb'
    ∧ (∀ (post : SX → Prop) (J : Int32 → Int32 → Int32 → Int32 → Int32 → Int32 → Int64 → Int64 → (Nat → Int32) → (Nat → Int32) → (Nat → Int32) → (Nat → Int32) → (Nat → Int32) → (Nat → Int32) → (Nat → Int32) → (Nat → Int32) → (Nat → Int32) → (Nat → Int32) → Prop) (n : Nat), d < n → J (nI (f + 1)) (nI l) (nI c) (nI t) qf' qb' qt' qd' p g sf sb lv nr rs w cr cs → wX_findSplit_23 post J (nI m) (Int32.ofInt N) (Int32.ofInt S) (nI f) n (Int32.ofInt (ht_K (fun _ => 1) p w m f b c)) (Int32.ofInt (ht_K (fun j => (rs j).toInt) p w m f b c)) (nI b) (nI l) (nI c) (nI t) qf qb qt qd p g sf sb lv nr rs w cr cs)
    ∧ (∀ (post : SY → Prop) (J : Int64 → Int64 → Int32 → (Nat → Int32) → (Nat → Int32) → (Nat → Int32) → (Nat → Int32) → (Nat → Int32) → (Nat → Int32) → (Nat → Int32) → (Nat → Int32) → Prop) (n : Nat), d < n → J yt' yd' (nI (f + 1)) p g yf' yb' lv nr rs w → wY_split_50 post J (nI t) (nI m) (Int64.ofInt N) (Int64.ofInt S) (nI k) (nI f) (nI l) (nI c) (nI t) n yt yd (nI b) p g yf yb lv nr rs w) := by
  intro d
  induction d with
  | zero =>
    intro b hb qf qb qt qd yt yd yf yb h
    obtain rfl : b = 7 := by omega
    refine ⟨qf, qb, qt, qd, yt, yd, yf, yb, h, fun post J n hn hJ => ?_, fun post J n hn hJ => ?_⟩
    · obtain ⟨n, rfl⟩ : ∃ k, n = k + 1 := ⟨n - 1, by omega⟩
      exact br_t (nI_le (a := 7) (b := 7) (by omega) (by decide)) (nm_r (nI_1 f) hJ)
    · obtain ⟨n, rfl⟩ : ∃ k, n = k + 1 := ⟨n - 1, by omega⟩
      exact br_t (nI_le (a := 7) (b := 7) (by omega) (by decide)) (nm_r (nI_1 f) hJ)
  | succ d ih =>
    intro b hb qf qb qt qd yt yd yf yb h
    have k1 := ht_K1 (p := p) (w := w) (m := m) (f := f) (b := b + 1) c
    have k2 := ht_Kb (e := fun j => (rs j).toInt) (p := p) (w := w) (m := m) (f := f) (b := b + 1) (B := 400) (by omega) c hr
    obtain ⟨a, ea⟩ : ∃ a, ht_K (fun _ => 1) p w m f (b + 1) c = a := ⟨_, rfl⟩
    obtain ⟨s, es⟩ : ∃ s, ht_K (fun j => (rs j).toInt) p w m f (b + 1) c = s := ⟨_, rfl⟩
    rw [ea] at k1 k2
    rw [es] at k2
    have ha : 0 ≤ a ∧ a ≤ 24 := by omega
    have hs : -9600 ≤ s ∧ s ≤ 9600 := by omega
    by_cases hal : (l : Int) ≤ a ∧ (l : Int) ≤ N - a
    · rcases ht_step (a := a) (s := s) hN hS (by omega) (by omega) hs h f b hf with ⟨cx, cy, h'⟩ | ⟨cx, cy, h'⟩ | ⟨cx, cy⟩
      · obtain ⟨qf', qb', qt', qd', yt', yd', yf', yb', hB, hX, hY⟩ := ih (b + 1) (by omega) _ _ _ _ _ _ _ _ h'
        rw [ea, es] at hX
        refine ⟨qf', qb', qt', qd', yt', yd', yf', yb', hB, fun post J n hn hJ => ?_, fun post J n hn hJ => ?_⟩
        · obtain ⟨n, rfl⟩ : ∃ k, n = k + 1 := ⟨n - 1, by omega⟩
          exact ht_xs1 hl hm hf (by omega) hH hN hS ha hs ea es (fun z => absurd z (by omega)) (fun _ _ _ => hX post J n (by omega) hJ) (fun _ _ z => absurd cx z)
        · obtain ⟨n, rfl⟩ : ∃ k, n = k + 1 := ⟨n - 1, by omega⟩
          exact ht_ys1 hl hc hk (by omega) hN ha ea es (fun z => absurd z (by omega)) (fun _ _ _ => hY post J n (by omega) hJ) (fun _ _ z => absurd z cy)
      · obtain ⟨qf', qb', qt', qd', yt', yd', yf', yb', hB, hX, hY⟩ := ih (b + 1) (by omega) _ _ _ _ _ _ _ _ h'
        rw [ea, es] at hX
        refine ⟨qf', qb', qt', qd', yt', yd', yf', yb', hB, fun post J n hn hJ => ?_, fun post J n hn hJ => ?_⟩
        · obtain ⟨n, rfl⟩ : ∃ k, n = k + 1 := ⟨n - 1, by omega⟩
          exact ht_xs1 hl hm hf (by omega) hH hN hS ha hs ea es (fun z => absurd z (by omega)) (fun _ _ _ => hX post J n (by omega) hJ) (fun _ _ z => absurd cx z)
        · obtain ⟨n, rfl⟩ : ∃ k, n = k + 1 := ⟨n - 1, by omega⟩
          exact ht_ys1 hl hc hk (by omega) hN ha ea es (fun z => absurd z (by omega)) (fun _ _ z => absurd cy z) (fun _ _ _ => hY post J n (by omega) hJ)
      · obtain ⟨qf', qb', qt', qd', yt', yd', yf', yb', hB, hX, hY⟩ := ih (b + 1) (by omega) _ _ _ _ _ _ _ _ h
        rw [ea, es] at hX
        refine ⟨qf', qb', qt', qd', yt', yd', yf', yb', hB, fun post J n hn hJ => ?_, fun post J n hn hJ => ?_⟩
        · obtain ⟨n, rfl⟩ : ∃ k, n = k + 1 := ⟨n - 1, by omega⟩
          exact ht_xs1 hl hm hf (by omega) hH hN hS ha hs ea es (fun z => absurd z (by omega)) (fun _ _ z => absurd z cx) (fun _ _ _ => hX post J n (by omega) hJ)
        · obtain ⟨n, rfl⟩ : ∃ k, n = k + 1 := ⟨n - 1, by omega⟩
          exact ht_ys1 hl hc hk (by omega) hN ha ea es (fun z => absurd z (by omega)) (fun _ _ z => absurd cy z) (fun _ _ _ => hY post J n (by omega) hJ)
    · obtain ⟨qf', qb', qt', qd', yt', yd', yf', yb', hB, hX, hY⟩ := ih (b + 1) (by omega) _ _ _ _ _ _ _ _ h
      rw [ea, es] at hX
      refine ⟨qf', qb', qt', qd', yt', yd', yf', yb', hB, fun post J n hn hJ => ?_, fun post J n hn hJ => ?_⟩
      · obtain ⟨n, rfl⟩ : ∃ k, n = k + 1 := ⟨n - 1, by omega⟩
        exact ht_xs1 hl hm hf (by omega) hH hN hS ha hs ea es (fun _ => hX post J n (by omega) hJ) (fun z1 z2 _ => absurd ⟨z1, z2⟩ hal) (fun z1 z2 _ => absurd ⟨z1, z2⟩ hal)
      · obtain ⟨n, rfl⟩ : ∃ k, n = k + 1 := ⟨n - 1, by omega⟩
        exact ht_ys1 hl hc hk (by omega) hN ha ea es (fun _ => hY post J n (by omega) hJ) (fun z1 z2 _ => absurd ⟨z1, z2⟩ hal) (fun z1 z2 _ => absurd ⟨z1, z2⟩ hal)
theorem ht_in3 {m k : Nat} {N S : Int} {yf0 sb0 : Nat → Int32} (hl : l ≤ 12) (hl1 : 1 ≤ l) (hc : c ≤ 24) (hm : m < 7) (hk : k < 28) (hH : ht_HC p w rs c cr cs m) (hr : ∀ i, i < c → -400 ≤ (rs i).toInt ∧ (rs i).toInt ≤ 400) (hN : 0 ≤ N ∧ N ≤ 24) (hS : -9600 ≤ S ∧ S ≤ 9600) : ∀ d f, f + d = 3 → ∀ (qf qb : Int32) (qt qd yt yd : Int64) (yf yb : Nat → Int32), ht_BR N S k yf0 sb0 qf qb qt qd yt yd yf yb → ∃ (qf' qb' : Int32) (qt' qd' yt' yd' : Int64) (yf' yb' : Nat → Int32), ht_BR N S k yf0 sb0 qf' qb' qt' qd' yt' yd' yf' yb'
    ∧ (∀ (post : SX → Prop) (n : Nat), d < n → post (nI l, nI c, nI t, qf', qb', qt', qd', p, g, sf, sb, lv, nr, rs, w, cr, cs) → wX_findSplit_8 post (nI m) (Int32.ofInt N) (Int32.ofInt S) n (nI f) (nI l) (nI c) (nI t) qf qb qt qd p g sf sb lv nr rs w cr cs)
    ∧ (∀ (post : SY → Prop) (n : Nat), d < n → (∀ n', wY_split_41 post (nI t) (nI m) (Int64.ofInt N) (Int64.ofInt S) (nI k) (nI l) (nI c) (nI t) (n' + 1) yt' yd' (nI 3) p g yf' yb' lv nr rs w) → wY_split_41 post (nI t) (nI m) (Int64.ofInt N) (Int64.ofInt S) (nI k) (nI l) (nI c) (nI t) n yt yd (nI f) p g yf yb lv nr rs w) := by
  intro d
  induction d with
  | zero =>
    intro f hf qf qb qt qd yt yd yf yb h
    obtain rfl : f = 3 := by omega
    refine ⟨qf, qb, qt, qd, yt, yd, yf, yb, h, fun post n hn hp => ?_, fun post n hn hp => ?_⟩
    · obtain ⟨n, rfl⟩ : ∃ k, n = k + 1 := ⟨n - 1, by omega⟩
      exact br_t (nI_le (a := 3) (b := 3) (by omega) (by decide)) hp
    · obtain ⟨n, rfl⟩ : ∃ k, n = k + 1 := ⟨n - 1, by omega⟩
      exact hp n
  | succ d ih =>
    intro f hf qf qb qt qd yt yd yf yb h
    obtain ⟨qf1, qb1, qt1, qd1, yt1, yd1, yf1, yb1, h1, hX1, hY1⟩ := ht_in7 (l := l) (c := c) (t := t) (p := p) (g := g) (sf := sf) (sb := sb) (lv := lv) (nr := nr) (rs := rs) (w := w) (cr := cr) (cs := cs) (f := f) hl hl1 hc hm hk (by omega) hH hr hN hS 7 0 (by omega) qf qb qt qd yt yd yf yb h
    obtain ⟨qf', qb', qt', qd', yt', yd', yf', yb', hB, hX, hY⟩ := ih (f + 1) (by omega) qf1 qb1 qt1 qd1 yt1 yd1 yf1 yb1 h1
    rw [ht_K0, ht_K0] at hX1
    refine ⟨qf', qb', qt', qd', yt', yd', yf', yb', hB, fun post n hn hp => ?_, fun post n hn hp => ?_⟩
    · obtain ⟨n, rfl⟩ : ∃ k, n = k + 1 := ⟨n - 1, by omega⟩
      exact br_f (nI_ge (a := f) (b := 3) (by omega) (by decide)) (Exists.intro 8 (hX1 post _ 8 (by omega) (hX post n (by omega) hp)))
    · obtain ⟨n, rfl⟩ : ∃ k, n = k + 1 := ⟨n - 1, by omega⟩
      exact br_f (nI_ge (a := f) (b := 3) (by omega) (by decide)) (Exists.intro 8 (hY1 post _ 8 (by omega) (hY post n (by omega) hp)))
end
end
section
/-! part (the component) and send (the reference) -/
/-- where the rows of node m go: F the feature, G the bound -/
def ht_go (F G : Int32) (p w : Nat → Int32) (m : Nat) : Nat → Int32 := fun j => if w j = nI m then (if G < ht_cl (p j) F then nI (2 * m + 2) else nI (2 * m + 1)) else w j
theorem ht_go_r {F G : Int32} {p w : Nat → Int32} {m j : Nat} (h : w j = nI m) (h2 : G < ht_cl (p j) F) : ht_go F G p w m j = nI (2 * m + 2) := by
  unfold ht_go
  rw [if_pos h, if_pos h2]
theorem ht_go_l {F G : Int32} {p w : Nat → Int32} {m j : Nat} (h : w j = nI m) (h2 : ¬ G < ht_cl (p j) F) : ht_go F G p w m j = nI (2 * m + 1) := by
  unfold ht_go
  rw [if_pos h, if_neg h2]
theorem ht_go_n {F G : Int32} {p w : Nat → Int32} {m j : Nat} (h : ¬ w j = nI m) : ht_go F G p w m j = w j := if_neg h
section
variable {l c t : Nat} {qf qb : Int32} {qt qd : Int64} {p g sf sb lv nr rs w cr cs : Nat → Int32}
theorem ht_xpt {F G : Int32} {m k : Nat} (hc : c ≤ 24) (hm : m < 3) (hk : k < 28) (hF : sf k = F) (hG : sb k = G) : ∀ d i (x : Int32), i + d = c → ∃ x' : Int32, ∀ (post : SX → Prop) (n : Nat), d < n → (∀ n', wX_part_20 post (nI m) (nI k) (nI (2 * m + 1)) (nI l) (nI c) (nI t) qf qb qt qd (n' + 1) x' (nI c) p g sf sb lv nr rs (ht_fr 0 c (ht_go F G p w m) w) cr cs) → wX_part_20 post (nI m) (nI k) (nI (2 * m + 1)) (nI l) (nI c) (nI t) qf qb qt qd n x (nI i) p g sf sb lv nr rs (ht_fr 0 i (ht_go F G p w m) w) cr cs := by
  intro d
  induction d with
  | zero =>
    intro i x hi
    obtain rfl : i = c := by omega
    refine ⟨x, fun post n hn h => ?_⟩
    obtain ⟨n, rfl⟩ : ∃ k, n = k + 1 := ⟨n - 1, by omega⟩
    exact h n
  | succ d ih =>
    intro i x hi
    have hin : vp_in (nI i) 24 := vp_in_nI (by omega) (by omega)
    have hik : vp_in (nI k) 28 := vp_in_nI hk (by omega)
    by_cases hw : w i = nI m
    · by_cases h2 : G < ht_cl (p i) F
      · obtain ⟨x', hx⟩ := ih (i + 1) x (by omega)
        refine ⟨x', fun post n hn h => ?_⟩
        obtain ⟨n, rfl⟩ : ∃ k, n = k + 1 := ⟨n - 1, by omega⟩
        refine br_f (nI_ge (by omega) (by omega)) ?_
        rw [nI_clamp (n := i) (by omega), nI_clamp (n := k) (by omega), ht_fl2 (Nat.le_refl i), hF, hG]
        refine ⟨hin, br_t hw ⟨hin, hik, ht_fo ⟨hik, br_t h2 ?_⟩⟩⟩
        unfold wX_part_84
        rw [nI_clamp (n := i) (by omega), nI_1]
        refine ⟨hin, nm_r (ht_fl i _ _ (ht_go_r hw h2).symm) ⟨hin, br_f ?_ (nm_r (nI_1 i) (hx post n (by omega) h))⟩⟩
        rw [ht_fl1 (Nat.lt_succ_self i), ht_go_r hw h2, nI_eq (by omega) (by omega)]
        omega
      · obtain ⟨x', hx⟩ := ih (i + 1) (x + 1) (by omega)
        refine ⟨x', fun post n hn h => ?_⟩
        obtain ⟨n, rfl⟩ : ∃ k, n = k + 1 := ⟨n - 1, by omega⟩
        refine br_f (nI_ge (by omega) (by omega)) ?_
        rw [nI_clamp (n := i) (by omega), nI_clamp (n := k) (by omega), ht_fl2 (Nat.le_refl i), hF, hG]
        refine ⟨hin, br_t hw ⟨hin, hik, ht_fo ⟨hik, br_f h2 ?_⟩⟩⟩
        unfold wX_part_84
        rw [nI_clamp (n := i) (by omega)]
        refine ⟨hin, nm_r (ht_fl i _ _ (ht_go_l hw h2).symm) ⟨hin, br_t ?_ (nm_e (nm_r (nI_1 i) (hx post n (by omega) h)))⟩⟩
        rw [ht_fl1 (Nat.lt_succ_self i), ht_go_l hw h2]
    · obtain ⟨x', hx⟩ := ih (i + 1) x (by omega)
      refine ⟨x', fun post n hn h => ?_⟩
      obtain ⟨n, rfl⟩ : ∃ k, n = k + 1 := ⟨n - 1, by omega⟩
      have h3 := hx post n (by omega) h
      rw [ht_fln i _ _ (ht_go_n hw).symm] at h3
      refine br_f (nI_ge (by omega) (by omega)) ?_
      rw [nI_clamp (n := i) (by omega), ht_fl2 (Nat.le_refl i)]
      exact ⟨hin, br_f hw (nm_r (nI_1 i) h3)⟩
/-- one part from its rows, the other one as what is left -/
theorem ht_x146 {w0 : Nat → Int32} {m a d : Nat} (hc : c ≤ 24) (hm : m < 7) (ha : a < 7) (hd : d < 7) (hma : a ≠ m) (hmd : d ≠ m) (had : a ≠ d) (hH : ht_HC p w0 rs c cr cs m) (hs : ∀ (e : Nat → Int) (f v : Nat), ht_H e p w0 m f v c = ht_H e p w a f v c + ht_H e p w d f v c) : ∃ cr' cs' : Nat → Int32, ht_HC p w rs c cr' cs' a ∧ ht_HC p w rs c cr' cs' d ∧ (∀ j, (j < a * 24 ∨ a * 24 + 24 ≤ j) → (j < d * 24 ∨ d * 24 + 24 ≤ j) → cr' j = cr j ∧ cs' j = cs j) ∧ ∀ (post : SX → Prop), post (nI l, nI c, nI t, qf, qb, qt, qd, p, g, sf, sb, lv, nr, rs, w, cr', cs') → wX_part_146 post (nI m) (nI d) (nI a) (nI l) (nI c) (nI t) qf qb qt qd p g sf sb lv nr rs w cr cs := by
  obtain ⟨cr1, cs1, h1, k1, k2, hw⟩ := ht_xfr (l := l) (c := c) (t := t) (qf := qf) (qb := qb) (qt := qt) (qd := qd) (p := p) (g := g) (sf := sf) (sb := sb) (lv := lv) (nr := nr) (rs := rs) (w := w) (cr := cr) (cs := cs) hd hc
  refine ⟨ht_fr (a * 24) 24 (fun q => cr1 (m * 24 + q) - cr1 (d * 24 + q)) cr1, ht_fr (a * 24) 24 (fun q => cs1 (m * 24 + q) - cs1 (d * 24 + q)) cs1, ?_, ht_HCk h1 ht_KPf ht_KPf (fun z => had z.symm), fun j hj hj2 => ⟨(ht_fro hj).trans (k1 j hj2), (ht_fro hj).trans (k2 j hj2)⟩, fun post h => ?_⟩
  · intro f v hf hv
    obtain ⟨e1, e2⟩ := h1 f v hf hv
    obtain ⟨e3, e4⟩ := hH f v hf hv
    rw [Nat.add_assoc, ht_fri (by omega), ht_fri (by omega), ← Nat.add_assoc, ← Nat.add_assoc, e1, e2, k1 _ (by omega), k2 _ (by omega), e3, e4, hs, hs, Int32.ofInt_add, Int32.ofInt_add, Int32.add_sub_cancel, Int32.add_sub_cancel]
    exact ⟨rfl, rfl⟩
  · unfold wX_part_146
    refine hw _ ?_
    exact ht_xfp ha hm hd hma had h
theorem ht_xpart {F G : Int32} {m : Nat} (ht : t < 4) (hc : c ≤ 24) (hm : m < 3) (hF : sf (t * 7 + m) = F) (hG : sb (t * 7 + m) = G) (hno : ∀ i, i < c → ¬ w i = nI (2 * m + 1) ∧ ¬ w i = nI (2 * m + 2)) (hH : ht_HC p w rs c cr cs m) : ∃ cr' cs' : Nat → Int32, ht_HC p (ht_fr 0 c (ht_go F G p w m) w) rs c cr' cs' (2 * m + 1) ∧ ht_HC p (ht_fr 0 c (ht_go F G p w m) w) rs c cr' cs' (2 * m + 2) ∧ (∀ j, (j < (2 * m + 1) * 24 ∨ (2 * m + 1) * 24 + 24 ≤ j) → (j < (2 * m + 2) * 24 ∨ (2 * m + 2) * 24 + 24 ≤ j) → cr' j = cr j ∧ cs' j = cs j) ∧ ∀ (post : SX → Prop), post (nI l, nI c, nI t, qf, qb, qt, qd, p, g, sf, sb, lv, nr, rs, ht_fr 0 c (ht_go F G p w m) w, cr', cs') → wpX_part post (nI l, nI c, nI t, qf, qb, qt, qd, p, g, sf, sb, lv, nr, rs, w, cr, cs) (nI t) (nI m) := by
  obtain ⟨x', hx⟩ := ht_xpt (l := l) (c := c) (t := t) (qf := qf) (qb := qb) (qt := qt) (qd := qd) (p := p) (g := g) (sf := sf) (sb := sb) (lv := lv) (nr := nr) (rs := rs) (w := w) (cr := cr) (cs := cs) (k := t * 7 + m) hc hm (by omega) hF hG c 0 0 (by omega)
  rw [ht_fr0] at hx
  have hsp : ∀ (e : Nat → Int) (f v : Nat), ht_H e p w m f v c = ht_H e p (ht_fr 0 c (ht_go F G p w m) w) (2 * m + 1) f v c + ht_H e p (ht_fr 0 c (ht_go F G p w m) w) (2 * m + 2) f v c := by
    intro e f v
    refine ht_Hsp ?_ (fun i hi hw => ?_) (fun i hi hw => ?_)
    · rw [nI_eq (by omega) (by omega)]; omega
    · rw [ht_fl1 hi]
      by_cases h2 : G < ht_cl (p i) F
      · exact Or.inr (ht_go_r hw h2)
      · exact Or.inl (ht_go_l hw h2)
    · rw [ht_fl1 hi, ht_go_n hw]
      exact hno i hi
  have hik : vp_in (nI (t * 7 + m)) 28 := vp_in_nI (by omega) (by omega)
  by_cases hz : nr (t * 7 + m) < 2 * x'
  · obtain ⟨cr', cs', h1, h2, hk, hP⟩ := ht_x146 (l := l) (c := c) (t := t) (qf := qf) (qb := qb) (qt := qt) (qd := qd) (p := p) (g := g) (sf := sf) (sb := sb) (lv := lv) (nr := nr) (rs := rs) (w := ht_fr 0 c (ht_go F G p w m) w) (cr := cr) (cs := cs) (m := m) (a := 2 * m + 1) (d := 2 * m + 2) hc (by omega) (by omega) (by omega) (by omega) (by omega) (by omega) hH hsp
    refine ⟨cr', cs', h1, h2, hk, fun post h => ?_⟩
    refine nm_r (ht_at t m) (nm_r (ht_d1 m) (Exists.intro (c + 1) (hx post (c + 1) (by omega) (fun n' => ?_))))
    refine br_t (nI_le (by omega) (by omega)) ?_
    rw [nI_clamp (by omega)]
    refine ⟨hik, br_t hz ?_⟩
    rw [nI_1]
    refine br_f ?_ (hP post h)
    rw [nI_eq (by omega) (by omega)]; omega
  · obtain ⟨cr', cs', h1, h2, hk, hP⟩ := ht_x146 (l := l) (c := c) (t := t) (qf := qf) (qb := qb) (qt := qt) (qd := qd) (p := p) (g := g) (sf := sf) (sb := sb) (lv := lv) (nr := nr) (rs := rs) (w := ht_fr 0 c (ht_go F G p w m) w) (cr := cr) (cs := cs) (m := m) (a := 2 * m + 2) (d := 2 * m + 1) hc (by omega) (by omega) (by omega) (by omega) (by omega) (by omega) hH (fun e f v => (hsp e f v).trans (Int.add_comm _ _))
    refine ⟨cr', cs', h2, h1, fun j hj hj2 => hk j hj2 hj, fun post h => ?_⟩
    refine nm_r (ht_at t m) (nm_r (ht_d1 m) (Exists.intro (c + 1) (hx post (c + 1) (by omega) (fun n' => ?_))))
    refine br_t (nI_le (by omega) (by omega)) ?_
    rw [nI_clamp (by omega)]
    refine ⟨hik, br_f hz (br_t rfl ?_)⟩
    rw [nI_1]
    exact hP post h
theorem ht_ysend {post : SY → Prop} {m : Nat} (ht : t < 4) (hc : c ≤ 24) (hm : m < 3) (h : post (nI l, nI c, nI t, p, g, upd (upd sf (t * 7 + (2 * m + 1)) (-6)) (t * 7 + (2 * m + 2)) (-6), sb, lv, nr, rs, ht_fr 0 c (ht_go (sf (t * 7 + m)) (sb (t * 7 + m)) p w m) w)) : wpY_send post (nI l, nI c, nI t, p, g, sf, sb, lv, nr, rs, w) (nI t) (nI m) := by
  have hik : vp_in (nI (t * 7 + m)) 28 := vp_in_nI (by omega) (by omega)
  have L : ∀ d i n, i + d = c → d < n → wY_send_10 post (nI m) (nI (t * 7 + m)) (nI l) (nI c) (nI t) n (nI i) p g sf sb lv nr rs (ht_fr 0 i (ht_go (sf (t * 7 + m)) (sb (t * 7 + m)) p w m) w) := by
    intro d
    induction d with
    | zero =>
      intro i n hi hn
      obtain ⟨n, rfl⟩ : ∃ k, n = k + 1 := ⟨n - 1, by omega⟩
      obtain rfl : i = c := by omega
      have e1 : nI (t * 7 + m) + nI m + 1 = nI (t * 7 + (2 * m + 1)) := by
        rw [nI_add, nI_1]
        exact congrArg nI (by omega)
      have e2 : nI (t * 7 + m) + nI m + 2 = nI (t * 7 + (2 * m + 2)) := by
        rw [nI_add, show (2 : Int32) = nI 2 from rfl, nI_add]
        exact congrArg nI (by omega)
      refine br_t (nI_le (by omega) (by omega)) ?_
      rw [e1, e2, nI_clamp (n := t * 7 + (2 * m + 1)) (by omega), nI_clamp (n := t * 7 + (2 * m + 2)) (by omega)]
      exact ⟨vp_in_nI (by omega) (by omega), nm_e ⟨vp_in_nI (by omega) (by omega), nm_e h⟩⟩
    | succ d ih =>
      intro i n hi hn
      obtain ⟨n, rfl⟩ : ∃ k, n = k + 1 := ⟨n - 1, by omega⟩
      have hin : vp_in (nI i) 24 := vp_in_nI (by omega) (by omega)
      have h3 := ih (i + 1) n (by omega) (by omega)
      refine br_f (nI_ge (by omega) (by omega)) ?_
      rw [nI_clamp (n := i) (by omega), nI_clamp (n := t * 7 + m) (by omega), ht_fl2 (Nat.le_refl i)]
      by_cases hw : w i = nI m
      · by_cases h2 : sb (t * 7 + m) < ht_cl (p i) (sf (t * 7 + m))
        · exact ⟨hin, br_t hw ⟨hin, hik, ht_yc ⟨hik, br_t h2 ⟨hin, nm_r (ht_fl i _ _ ((ht_d2 m).trans (ht_go_r hw h2).symm)) (nm_r (nI_1 i) h3)⟩⟩⟩⟩
        · exact ⟨hin, br_t hw ⟨hin, hik, ht_yc ⟨hik, br_f h2 ⟨hin, nm_r (ht_fl i _ _ ((ht_d1 m).trans (ht_go_l hw h2).symm)) (nm_r (nI_1 i) h3)⟩⟩⟩⟩
      · rw [ht_fln i _ _ (ht_go_n hw).symm] at h3
        exact ⟨hin, br_f hw (nm_r (nI_1 i) h3)⟩
  have h0 := L c 0 (c + 1) (by omega) (by omega)
  rw [ht_fr0] at h0
  exact nm_r (ht_at t m) (Exists.intro (c + 1) h0)
end
end
section
/-! the invariant of the training's main loop, at node k -/
def ht_th (t : Nat) (sf : Nat → Int32) (j : Nat) : Prop := j = 0 ∨ ¬ sf (t * 7 + (j - 1) / 2) < 0
def ht_Inv (k t c : Nat) (p rs w sf yf lv cr cs : Nat → Int32) : Prop :=
  (∀ i, i < c → ∃ m, m ≤ 2 * k ∧ w i = nI m) ∧ (∀ j, (j < t * 7 + k ∨ t * 7 + 7 ≤ j) → yf j = sf j) ∧ (∀ j, k ≤ j → j < 7 → sf (t * 7 + j) = -7 ∧ (ht_th t sf j → yf (t * 7 + j) = -6) ∧ (¬ ht_th t sf j → yf (t * 7 + j) = -7)) ∧ (∀ j, k ≤ j → j < 7 → lv (t * 7 + j) = 0) ∧ (∀ j, k ≤ j → j ≤ 2 * k → j < 7 → ht_th t sf j → ht_HC p w rs c cr cs j) ∧ ht_SF sf ∧ ht_LV lv
theorem ht_m7 : (-7 : Int32) < 0 := by decide
theorem ht_m6 : (-6 : Int32) < 0 := by decide
theorem ht_m67 : ¬ (-7 : Int32) = -6 := by decide
/-- a write at node k leaves it as it is, whether a later node (up to 2 k) is there -/
theorem ht_thu {t k j : Nat} {sf : Nat → Int32} {x : Int32} (h : j ≤ 2 * k) : ht_th t (upd sf (t * 7 + k) x) j ↔ ht_th t sf j := by
  unfold ht_th
  by_cases h0 : j = 0
  · exact ⟨fun _ => Or.inl h0, fun _ => Or.inl h0⟩
  · rw [pk_un (by omega)]
theorem ht_thn {t k j : Nat} {sf : Nat → Int32} {x : Int32} (hx : x < 0) (h0 : 2 * k < j) (h : ∀ j, k < j → j < 7 → sf (t * 7 + j) = -7) (hj : j < 7) : ¬ ht_th t (upd sf (t * 7 + k) x) j := by
  intro z
  rcases z with z | z
  · omega
  · apply z
    by_cases e : (j - 1) / 2 = k
    · rw [e, pk_us]; exact hx
    · rw [pk_un (by omega), h _ (by omega) (by omega)]; exact ht_m7
theorem ht_Isk {k t c : Nat} {p rs w sf yf lv cr cs : Nat → Int32} (hk : k < 7) (hn : ¬ ht_th t sf k) (h : ht_Inv k t c p rs w sf yf lv cr cs) : ht_Inv (k + 1) t c p rs w sf yf lv cr cs := by
  obtain ⟨h1, h2, h3, h4, h5, h6, h7⟩ := h
  refine ⟨fun i hi => ?_, fun j hj => ?_, fun j hj hj7 => h3 j (by omega) hj7, fun j hj hj7 => h4 j (by omega) hj7, fun j hj hj2 hj7 hth => ?_, h6, h7⟩
  · obtain ⟨m, hm, e⟩ := h1 i hi
    exact ⟨m, by omega, e⟩
  · by_cases e : j = t * 7 + k
    · subst e
      obtain ⟨a, _, b⟩ := h3 k (Nat.le_refl k) hk
      rw [a, b hn]
    · exact h2 j (by omega)
  · by_cases e : j ≤ 2 * k
    · exact h5 j (by omega) e hj7 hth
    · rcases hth with z | z
      · omega
      · have hp : (j - 1) / 2 = k := by omega
        rw [hp, (h3 k (Nat.le_refl k) hk).1] at z
        exact absurd ht_m7 z
theorem ht_LVu {t k : Nat} {lv : Nat → Int32} {x : Int32} (ht : t < 4) (hk : k < 7) (hx : -(50 * 2 ^ t) ≤ x.toInt ∧ x.toInt ≤ 50 * 2 ^ t) (h : ht_LV lv) : ht_LV (upd lv (t * 7 + k) x) := by
  intro s j hs hj
  by_cases e : s * 7 + j = t * 7 + k
  · obtain rfl : s = t := by omega
    rw [e, pk_us]
    exact hx
  · rw [pk_un e]
    exact h s j hs hj
theorem ht_SFu {k : Nat} {sf : Nat → Int32} {x : Int32} (hx : x < 0 ∨ x = 0 ∨ x = 1 ∨ x = 2) (h : ht_SF sf) : ht_SF (upd sf k x) := by
  intro j
  by_cases e : j = k
  · rw [e, pk_us]; exact hx
  · rw [pk_un e]; exact h j
theorem ht_Ile {k t c : Nat} {p rs w sf yf lv cr cs : Nat → Int32} {x : Int32} (ht : t < 4) (hk : k < 7) (hth : ht_th t sf k) (hx : -(50 * 2 ^ t) ≤ x.toInt ∧ x.toInt ≤ 50 * 2 ^ t) (h : ht_Inv k t c p rs w sf yf lv cr cs) : ht_Inv (k + 1) t c p rs w (upd sf (t * 7 + k) (-6)) yf (upd lv (t * 7 + k) x) cr cs := by
  obtain ⟨h1, h2, h3, h4, h5, h6, h7⟩ := h
  have hsf : ∀ j, k < j → j < 7 → sf (t * 7 + j) = -7 := fun j hj hj7 => (h3 j (by omega) hj7).1
  refine ⟨fun i hi => ?_, fun j hj => ?_, fun j hj hj7 => ?_, fun j hj hj7 => ?_, fun j hj hj2 hj7 hthj => ?_, ht_SFu (Or.inl ht_m6) h6, ht_LVu ht hk hx h7⟩
  · obtain ⟨m, hm, e⟩ := h1 i hi
    exact ⟨m, by omega, e⟩
  · by_cases e : j = t * 7 + k
    · subst e
      rw [pk_us]
      exact (h3 k (Nat.le_refl k) hk).2.1 hth
    · rw [pk_un e]
      exact h2 j (by omega)
  · rw [pk_un (by omega)]
    refine ⟨hsf j (by omega) hj7, ?_⟩
    by_cases e : j ≤ 2 * k
    · rw [ht_thu e]
      exact (h3 j (by omega) hj7).2
    · refine ⟨fun z => absurd z (ht_thn ht_m6 (by omega) hsf hj7), fun _ => (h3 j (by omega) hj7).2.2 ?_⟩
      have z := ht_thn (x := -7) ht_m7 (by omega) hsf hj7
      rw [ht_us (h3 k (Nat.le_refl k) hk).1] at z
      exact z
  · rw [pk_un (by omega)]
    exact h4 j (by omega) hj7
  · by_cases e : j ≤ 2 * k
    · rw [ht_thu e] at hthj
      exact h5 j (by omega) e hj7 hthj
    · exact absurd hthj (ht_thn ht_m6 (by omega) hsf hj7)
theorem ht_Isp {k t c : Nat} {p rs w w' sf yf lv cr cs cr' cs' : Nat → Int32} {f : Nat} {F G : Int32} (ht : t < 4) (hk : k < 3) (hf : f < 3) (hth : ht_th t sf k) (h : ht_Inv k t c p rs w sf yf lv cr cs) (ew : w' = ht_fr 0 c (ht_go F G p w k) w) (g1 : ht_HC p w' rs c cr' cs' (2 * k + 1)) (g2 : ht_HC p w' rs c cr' cs' (2 * k + 2)) (g3 : ∀ j, (j < (2 * k + 1) * 24 ∨ (2 * k + 1) * 24 + 24 ≤ j) → (j < (2 * k + 2) * 24 ∨ (2 * k + 2) * 24 + 24 ≤ j) → cr' j = cr j ∧ cs' j = cs j) : ht_Inv (k + 1) t c p rs w' (upd sf (t * 7 + k) (nI f)) (upd (upd (upd yf (t * 7 + k) (nI f)) (t * 7 + (2 * k + 1)) (-6)) (t * 7 + (2 * k + 2)) (-6)) lv cr' cs' := by
  obtain ⟨h1, h2, h3, h4, h5, h6, h7⟩ := h
  have hsf : ∀ j, k < j → j < 7 → sf (t * 7 + j) = -7 := fun j hj hj7 => (h3 j (by omega) hj7).1
  have hch : ∀ j, 2 * k < j → j ≤ 2 * k + 2 → ht_th t (upd sf (t * 7 + k) (nI f)) j := by
    intro j hj hj2
    refine Or.inr ?_
    have e : (j - 1) / 2 = k := by omega
    rw [e, pk_us]
    exact ht_nneg hf
  refine ⟨fun i hi => ?_, fun j hj => ?_, fun j hj hj7 => ?_, fun j hj hj7 => h4 j (by omega) hj7, fun j hj hj2 hj7 hthj => ?_, ht_SFu ?_ h6, h7⟩
  · rw [ew, ht_fl1 hi]
    by_cases hw : w i = nI k
    · by_cases hG : G < ht_cl (p i) F
      · exact ⟨2 * k + 2, by omega, ht_go_r hw hG⟩
      · exact ⟨2 * k + 1, by omega, ht_go_l hw hG⟩
    · obtain ⟨m, hm, e⟩ := h1 i hi
      exact ⟨m, by omega, (ht_go_n hw).trans e⟩
  · by_cases e : j = t * 7 + k
    · subst e
      rw [pk_un (by omega), pk_un (by omega), pk_us, pk_us]
    · rw [pk_un (by omega), pk_un (by omega), pk_un e, pk_un e]
      exact h2 j (by omega)
  · rw [pk_un (f := sf) (by omega)]
    refine ⟨hsf j (by omega) hj7, ?_⟩
    by_cases e : j ≤ 2 * k
    · rw [ht_thu e, pk_un (by omega), pk_un (by omega), pk_un (by omega)]
      exact (h3 j (by omega) hj7).2
    · by_cases e2 : j ≤ 2 * k + 2
      · refine ⟨fun _ => ?_, fun z => absurd (hch j (by omega) e2) z⟩
        by_cases e3 : j = 2 * k + 2
        · subst e3
          rw [pk_us]
        · obtain rfl : j = 2 * k + 1 := by omega
          rw [pk_un (by omega), pk_us]
      · have hnt : ¬ ht_th t sf j := by
          intro z
          rcases z with z | z
          · omega
          · rw [hsf _ (by omega) (by omega)] at z
            exact z ht_m7
        rw [pk_un (by omega), pk_un (by omega), pk_un (by omega)]
        refine ⟨fun z => ?_, fun _ => (h3 j (by omega) hj7).2.2 hnt⟩
        rcases z with z | z
        · omega
        · rw [pk_un (by omega), hsf _ (by omega) (by omega)] at z
          exact absurd ht_m7 z
  · by_cases e : j ≤ 2 * k
    · rw [ht_thu e] at hthj
      have hH := h5 j (by omega) e hj7 hthj
      intro f' v hf' hv
      obtain ⟨c1, c2⟩ := g3 (j * 24 + f' * 8 + v) (by omega) (by omega)
      have hke : ∀ i, i < c → (w' i = nI j ↔ w i = nI j) := by
        intro i hi
        rw [ew, ht_fl1 hi]
        by_cases hw : w i = nI k
        · have hkj : ¬ nI k = nI j := by
            rw [nI_eq (by omega) (by omega)]; omega
          by_cases hG : G < ht_cl (p i) F
          · rw [ht_go_r hw hG, hw, nI_eq (by omega) (by omega), nI_eq (by omega) (by omega)]
            omega
          · rw [ht_go_l hw hG, hw, nI_eq (by omega) (by omega), nI_eq (by omega) (by omega)]
            omega
        · rw [ht_go_n hw]
      rw [c1, c2, ht_Hke hke, ht_Hke hke]
      exact hH f' v hf' hv
    · by_cases e3 : j = 2 * k + 2
      · subst e3
        exact g2
      · obtain rfl : j = 2 * k + 1 := by omega
        exact g1
  · refine Or.inr ?_
    rcases (show f = 0 ∨ f = 1 ∨ f = 2 by omega) with rfl | rfl | rfl
    · exact Or.inl rfl
    · exact Or.inr (Or.inl rfl)
    · exact Or.inr (Or.inr rfl)
end
section
/-! grow (the component) against settle (the reference) -/
def ht_lf (N S : Int) : Int32 := if Int32.ofInt N ≤ 0 then 0 else Int32.ofInt S / Int32.ofInt N
theorem ht_lfb {N S B : Int} (hN : 0 ≤ N ∧ N ≤ 24) (hB : 0 ≤ B ∧ B ≤ 400) (hS : -(B * N) ≤ S ∧ S ≤ B * N) : -B ≤ (ht_lf N S).toInt ∧ (ht_lf N S).toInt ≤ B := by
  have hm : -(400 * 24) ≤ B * N ∧ B * N ≤ 400 * 24 := ht_mulb (by omega) (by omega)
  have hp : 0 ≤ B * N := Int.mul_nonneg hB.1 hN.1
  unfold ht_lf
  by_cases z : Int32.ofInt N ≤ 0
  · rw [if_pos z, show (0 : Int32).toInt = 0 from by decide]
    omega
  · rw [if_neg z]
    rw [Int32.le_iff_toInt_le, ht_o3 (by omega) (by omega), show (0 : Int32).toInt = 0 from by decide] at z
    have e : (Int32.ofInt S / Int32.ofInt N).toInt = S.tdiv N := by
      rw [Jvm.Kit.i32_div (by rw [ht_o3 (by omega) (by omega), ht_o3 (by omega) (by omega)]; omega), ht_o3 (by omega) (by omega), ht_o3 (by omega) (by omega)]
    rw [e]
    have h1 : (S.tdiv N).natAbs = S.natAbs / N.natAbs := Int.natAbs_tdiv S N
    have h2 : (B * N).natAbs = B.natAbs * N.natAbs := Int.natAbs_mul B N
    have h3 : S.natAbs / N.natAbs ≤ B.natAbs := by
      apply Nat.div_le_of_le_mul
      rw [Nat.mul_comm, ← h2]
      omega
    omega
section
variable {l c t : Nat} {qf qb : Int32} {qt qd : Int64} {p g sf sb lv nr rs w cr cs : Nat → Int32}
theorem ht_x83 {post : Int32 → SX → Prop} {k : Nat} {N S : Int} (hk : k < 28) (h : post 0 (nI l, nI c, nI t, qf, qb, qt, qd, p, g, upd sf k (-6), sb, upd lv k (ht_lf N S), nr, rs, w, cr, cs)) : wX_splitNode_83 post (nI k) (Int32.ofInt N) (Int32.ofInt S) (nI l) (nI c) (nI t) qf qb qt qd p g sf sb lv nr rs w cr cs := by
  have hin : vp_in (nI k) 28 := vp_in_nI hk (by omega)
  unfold wX_splitNode_83 wpX_makeLeaf
  dsimp only
  rw [nI_clamp (by omega)]
  unfold ht_lf at h
  by_cases z : Int32.ofInt N ≤ 0
  · rw [if_pos z] at h
    exact ⟨hin, nm_e (br_t z ⟨hin, nm_e h⟩)⟩
  · rw [if_neg z] at h
    refine ⟨hin, nm_e (br_f z ⟨fun e => z ?_, hin, nm_e h⟩)⟩
    rw [e]
    decide
theorem ht_own {S : Int} (hS : -9600 ≤ S ∧ S ≤ 9600) : (Int32.ofInt S).toInt64 * (Int32.ofInt S).toInt64 = Int64.ofInt (S * S) := by
  rw [ht_o36 (by omega) (by omega), Int64.ofInt_mul]
theorem ht_x48l {post : Int32 → SX → Prop} {k : Nat} {N S : Int} (hk : k < 28) (hN : 0 ≤ N ∧ N ≤ 24) (hS : -9600 ≤ S ∧ S ≤ 9600) (hq : qf < 0 ∨ ¬ Int64.ofInt (S * S) * qd < qt * Int64.ofInt N) (h : post 0 (nI l, nI c, nI t, qf, qb, qt, qd, p, g, upd sf k (-6), sb, upd lv k (ht_lf N S), nr, rs, w, cr, cs)) : wX_splitNode_48 post (nI k) (Int32.ofInt N) (Int32.ofInt S) (nI l) (nI c) (nI t) qf qb qt qd p g sf sb lv nr rs w cr cs := by
  unfold wX_splitNode_48
  rw [ht_own hS, ht_o36 (z := N) (by omega) (by omega)]
  refine nm_e ?_
  by_cases z : qf < 0
  · exact br_t z (ht_x83 hk h)
  · exact br_f z (br_f (hq.resolve_left z) (ht_x83 hk h))
theorem ht_x48s {post : Int32 → SX → Prop} {k : Nat} {N S : Int} (hk : k < 28) (hN : 0 ≤ N ∧ N ≤ 24) (hS : -9600 ≤ S ∧ S ≤ 9600) (hq : ¬ qf < 0) (hq2 : Int64.ofInt (S * S) * qd < qt * Int64.ofInt N) (h : post 1 (nI l, nI c, nI t, qf, qb, qt, qd, p, g, upd sf k qf, upd sb k qb, upd lv k 0, nr, rs, w, cr, cs)) : wX_splitNode_48 post (nI k) (Int32.ofInt N) (Int32.ofInt S) (nI l) (nI c) (nI t) qf qb qt qd p g sf sb lv nr rs w cr cs := by
  have hin : vp_in (nI k) 28 := vp_in_nI hk (by omega)
  unfold wX_splitNode_48
  rw [ht_own hS, ht_o36 (z := N) (by omega) (by omega), nI_clamp (by omega)]
  exact nm_e (br_f hq (br_t hq2 ⟨hin, nm_e ⟨hin, nm_e ⟨hin, nm_e h⟩⟩⟩))
theorem ht_xsn {post : Int32 → SX → Prop} {k : Nat} {N S : Int} (ht : t < 4) (hk : k < 7) (hH : ht_HC p w rs c cr cs k) (eN : ht_K (fun _ => 1) p w k 0 8 c = N) (eS : ht_K (fun j => (rs j).toInt) p w k 0 8 c = S)
    (h3 : 3 ≤ k → wX_splitNode_48 post (nI (t * 7 + k)) (Int32.ofInt N) (Int32.ofInt S) (nI l) (nI c) (nI t) (-1) qb qt qd p g sf sb lv (upd nr (t * 7 + k) (Int32.ofInt N)) rs w cr cs)
    (h0 : k < 3 → ∃ (qf' qb' : Int32) (qt' qd' : Int64), (∀ (post : SX → Prop) (n : Nat), 3 < n → post (nI l, nI c, nI t, qf', qb', qt', qd', p, g, sf, sb, lv, upd nr (t * 7 + k) (Int32.ofInt N), rs, w, cr, cs) → wX_findSplit_8 post (nI k) (Int32.ofInt N) (Int32.ofInt S) n (nI 0) (nI l) (nI c) (nI t) (-1) qb qt qd p g sf sb lv (upd nr (t * 7 + k) (Int32.ofInt N)) rs w cr cs) ∧ wX_splitNode_48 post (nI (t * 7 + k)) (Int32.ofInt N) (Int32.ofInt S) (nI l) (nI c) (nI t) qf' qb' qt' qd' p g sf sb lv (upd nr (t * 7 + k) (Int32.ofInt N)) rs w cr cs) :
    wpX_splitNode post (nI l, nI c, nI t, qf, qb, qt, qd, p, g, sf, sb, lv, nr, rs, w, cr, cs) (nI t) (nI k) := by
  have hin : vp_in (nI (t * 7 + k)) 28 := vp_in_nI (by omega) (by omega)
  unfold wpX_splitNode
  refine nm_r (ht_at t k) (ht_xri hk hH (ht_xsi hk hH ?_))
  rw [nI_clamp (by omega), eN, eS]
  refine ⟨hin, nm_e ?_⟩
  by_cases hk3 : k < 3
  · obtain ⟨qf', qb', qt', qd', hf, h48⟩ := h0 hk3
    exact br_f (nI_ge (a := k) (b := 3) (by omega) (by decide)) (Exists.intro 4 (hf _ 4 (by omega) h48))
  · exact br_t (nI_le (a := 3) (b := k) (by omega) (by omega)) (h3 (by omega))
theorem ht_y52l {post : SY → Prop} {k : Nat} {N S : Int} (hk : k < 28) (hf : sf k = -6) (hl : lv k = 0) (h : post (nI l, nI c, nI t, p, g, sf, sb, upd lv k (ht_lf N S), nr, rs, w)) : wY_settle_52 post (nI k) (Int32.ofInt N) (Int32.ofInt S) (nI l) (nI c) (nI t) p g sf sb lv nr rs w := by
  have hin : vp_in (nI k) 28 := vp_in_nI hk (by omega)
  unfold wY_settle_52
  rw [nI_clamp (by omega)]
  unfold ht_lf at h
  by_cases z : Int32.ofInt N ≤ 0
  · rw [if_pos z, ht_us hl] at h
    exact ⟨hin, br_t hf (br_t z h)⟩
  · rw [if_neg z] at h
    refine ⟨hin, br_t hf (br_f z ⟨fun e => z ?_, hin, nm_e h⟩)⟩
    rw [e]
    decide
theorem ht_y52n {post : SY → Prop} {k : Nat} {x y : Int32} (hk : k < 28) (hf : ¬ sf k = -6) (h : post (nI l, nI c, nI t, p, g, sf, sb, lv, nr, rs, w)) : wY_settle_52 post (nI k) x y (nI l) (nI c) (nI t) p g sf sb lv nr rs w := by
  have hin : vp_in (nI k) 28 := vp_in_nI hk (by omega)
  unfold wY_settle_52
  rw [nI_clamp (by omega)]
  exact ⟨hin, br_f hf h⟩
/-- settle: what a node below 3 with rows asks of split is split's outer loop -/
theorem ht_yse {post : SY → Prop} {k : Nat} {N S : Int} (ht : t < 4) (hc : c ≤ 24) (hk : k < 7) (hN : 0 ≤ N ∧ N ≤ 24) (hS : -9600 ≤ S ∧ S ≤ 9600) (eN : ht_K (fun _ => 1) p w k 0 8 c = N) (eS : ht_K (fun j => (rs j).toInt) p w k 0 8 c = S)
    (h3 : 3 ≤ k ∨ N ≤ 0 → wY_settle_52 post (nI (t * 7 + k)) (Int32.ofInt N) (Int32.ofInt S) (nI l) (nI c) (nI t) p g sf sb lv (upd nr (t * 7 + k) (Int32.ofInt N)) rs w)
    (h0 : k < 3 → 0 < N → ∀ post' : SY → Prop, (∀ (L' C' T' : Int32) (p' g' sf' sb' lv' nr' rs' w' : Nat → Int32), wY_settle_52 post (nI (t * 7 + k)) (Int32.ofInt N) (Int32.ofInt S) L' C' T' p' g' sf' sb' lv' nr' rs' w' → post' (L', C', T', p', g', sf', sb', lv', nr', rs', w')) → wY_split_41 post' (nI t) (nI k) (Int64.ofInt N) (Int64.ofInt S) (nI (t * 7 + k)) (nI l) (nI c) (nI t) 4 (Int64.ofInt (S * S)) (Int64.ofInt N) (nI 0) p g sf sb lv (upd nr (t * 7 + k) (Int32.ofInt N)) rs w) :
    wpY_settle post (nI l, nI c, nI t, p, g, sf, sb, lv, nr, rs, w) (nI t) (nI k) := by
  have hin : vp_in (nI (t * 7 + k)) 28 := vp_in_nI (by omega) (by omega)
  have eN' : ht_K (fun _ => 1) p w k 0 (7 + 1) c = N := eN
  have eS' : ht_K (fun j => (rs j).toInt) p w k 0 (7 + 1) c = S := eS
  have hz : Int32.ofInt N ≤ 0 ↔ N ≤ 0 := by
    rw [Int32.le_iff_toInt_le, ht_o3 (by omega) (by omega), show (0 : Int32).toInt = 0 from by decide]
  unfold wpY_settle
  refine nm_r (ht_at t k) (ht_yro (f := 0) (b := 7) hc (by omega) (ht_yso (f := 0) (b := 7) hc (by omega) ?_))
  rw [nI_clamp (by omega), eN', eS', Int64.toInt32_ofInt]
  refine ⟨hin, nm_e ?_⟩
  by_cases hk3 : k < 3
  · refine br_f (nI_ge (a := k) (b := 3) (by omega) (by decide)) (br_c (fun z => h3 (Or.inr (hz.mp z))) (fun z => ?_))
    have hN0 : 0 < N := by
      have h := mt hz.mpr z
      omega
    unfold wpY_split
    refine ht_yro (f := 0) (b := 7) hc (by omega) (ht_yso (f := 0) (b := 7) hc (by omega) ?_)
    rw [eN', eS', ht_o36 (z := N) (by omega) (by omega), ← Int64.ofInt_mul]
    refine nm_e (nm_r (ht_at t k) (Exists.intro 4 (h0 hk3 hN0 _ ?_)))
    intro L' C' T' p' g' sf' sb' lv' nr' rs' w' h
    exact h
  · exact br_t (nI_le (a := 3) (b := k) (by omega) (by omega)) (h3 (Or.inl (by omega)))
end
end
section
/-! one node of the training on both sides -/
section
variable {l c t : Nat} {qf qb : Int32} {qt qd : Int64} {p g sf sb lv nr rs w cr cs : Nat → Int32}
theorem ht_gs {k : Nat} {yf : Nat → Int32} (ht : t < 4) (hl : l ≤ 12) (hl1 : 1 ≤ l) (hc : c ≤ 24) (hk : k < 7) (hr : ∀ i, i < c → -(50 * 2 ^ t) ≤ (rs i).toInt ∧ (rs i).toInt ≤ 50 * 2 ^ t) (hI : ht_Inv k t c p rs w sf yf lv cr cs) (hth : ht_th t sf k) : ∃ (r qf' qb' : Int32) (qt' qd' : Int64) (sf' sb' lv' nr' w' cr' cs' yf' : Nat → Int32), ht_Inv (k + 1) t c p rs w' sf' yf' lv' cr' cs' ∧ ((yf' (t * 7 + k) = -6 ∧ r = 1) ∨ (¬ yf' (t * 7 + k) = -6 ∧ r = 0))
    ∧ (∀ post : Int32 → SX → Prop, post r (nI l, nI c, nI t, qf', qb', qt', qd', p, g, sf', sb', lv', nr', rs, w', cr', cs') → wpX_grow post (nI l, nI c, nI t, qf, qb, qt, qd, p, g, sf, sb, lv, nr, rs, w, cr, cs) (nI t) (nI k))
    ∧ (∀ post : SY → Prop, post (nI l, nI c, nI t, p, g, yf', sb', lv', nr', rs, w') → wpY_settle post (nI l, nI c, nI t, p, g, yf, sb, lv, nr, rs, w) (nI t) (nI k)) := by
  have hp := ht_2p t ht
  have hr4 : ∀ i, i < c → -400 ≤ (rs i).toInt ∧ (rs i).toInt ≤ 400 := by
    intro i hi
    have h := hr i hi
    omega
  have k1 := ht_K1 (p := p) (w := w) (m := k) (f := 0) (b := 8) c
  have k2 := ht_Kb (e := fun j => (rs j).toInt) (p := p) (w := w) (m := k) (f := 0) (b := 8) (B := 400) (by omega) c hr4
  have k3 := ht_Kb (e := fun j => (rs j).toInt) (p := p) (w := w) (m := k) (f := 0) (b := 8) (B := 50 * 2 ^ t) (by omega) c hr
  obtain ⟨N, eN⟩ : ∃ a, ht_K (fun _ => 1) p w k 0 8 c = a := ⟨_, rfl⟩
  obtain ⟨S, eS⟩ : ∃ s, ht_K (fun j => (rs j).toInt) p w k 0 8 c = s := ⟨_, rfl⟩
  rw [eN] at k1 k2 k3
  rw [eS] at k2 k3
  have hN : 0 ≤ N ∧ N ≤ 24 := by omega
  have hS : -9600 ≤ S ∧ S ≤ 9600 := by omega
  have hlf : -(50 * 2 ^ t) ≤ (ht_lf N S).toInt ∧ (ht_lf N S).toInt ≤ 50 * 2 ^ t := ht_lfb hN (by omega) k3
  have hat : t * 7 + k < 28 := by omega
  have hH : ht_HC p w rs c cr cs k := hI.2.2.2.2.1 k (Nat.le_refl k) (by omega) hk hth
  have hy6 : yf (t * 7 + k) = -6 := (hI.2.2.1 k (Nat.le_refl k) hk).2.1 hth
  have hl0 : lv (t * 7 + k) = 0 := hI.2.2.2.1 k (Nat.le_refl k) hk
  by_cases hk3 : k < 3
  · obtain ⟨qf', qb', qt', qd', yt', yd', yf', yb', hB, hX, hY⟩ := ht_in3 (l := l) (c := c) (t := t) (p := p) (g := g) (sf := sf) (sb := sb) (lv := lv) (nr := upd nr (t * 7 + k) (Int32.ofInt N)) (rs := rs) (w := w) (cr := cr) (cs := cs) (yf0 := yf) (sb0 := sb) hl hl1 hc hk hat hH hr4 hN hS 3 0 (by omega) (-1) qb qt qd (Int64.ofInt (S * S)) (Int64.ofInt N) yf sb (Or.inl ⟨rfl, rfl, rfl, rfl, Or.inl rfl⟩)
    rcases hB with ⟨rfl, rfl, rfl, rfl, hq⟩ | ⟨T, D, f, b, hf, rfl, rfl, rfl, rfl, T0, T1, D0, D1, hlt, rfl, rfl, rfl, rfl⟩
    · have hq' : qf' < 0 ∨ ¬ Int64.ofInt (S * S) * qd' < qt' * Int64.ofInt N := by
        rcases hq with rfl | ⟨_, T, D, rfl, rfl, T0, T1, D0, D1, hle⟩
        · exact Or.inl (by decide)
        · refine Or.inr ?_
          have hss : S * S ≤ 9600 * 9600 := (ht_mulb hS hS).2
          have hss0 := ht_sq S
          rw [(ht_cmp (T := S * S) (d := D) (U := T) (D := N) (by omega) (by omega) (by omega) (by omega)).1]
          omega
      refine ⟨1, qf', qb', qt', qd', upd sf (t * 7 + k) (-6), yb', upd lv (t * 7 + k) (ht_lf N S), upd nr (t * 7 + k) (Int32.ofInt N), w, cr, cs, yf', ht_Ile ht hk hth hlf hI, Or.inl ⟨hy6, rfl⟩, fun post h => ?_, fun post h => ?_⟩
      · unfold wpX_grow
        refine ht_xsn ht hk hH eN eS (fun z => absurd z (by omega)) (fun _ => ⟨qf', qb', qt', qd', hX, ?_⟩)
        refine ht_x48l hat hN hS hq' ?_
        exact br_t rfl (br_t rfl h)
      · refine ht_yse ht hc hk hN hS eN eS (fun _ => ht_y52l hat hy6 hl0 h) (fun _ hN0 post' hpost => ?_)
        refine hY post' 4 (by omega) (fun n' => ?_)
        refine br_t (nI_le (a := 3) (b := 3) (by omega) (by decide)) ?_
        rw [nI_clamp (by omega), hy6]
        refine ⟨vp_in_nI hat (by omega), br_t ht_m6 (hpost _ _ _ _ _ _ _ _ _ _ _ ?_)⟩
        exact ht_y52l hat hy6 hl0 h
    · have hno : ∀ i, i < c → ¬ w i = nI (2 * k + 1) ∧ ¬ w i = nI (2 * k + 2) := by
        intro i hi
        obtain ⟨m, hm, e⟩ := hI.1 i hi
        rw [e, nI_eq (by omega) (by omega), nI_eq (by omega) (by omega)]
        omega
      obtain ⟨cr', cs', g1, g2, g3, hP⟩ := ht_xpart (l := l) (c := c) (t := t) (qf := nI f) (qb := nI b) (qt := Int64.ofInt T) (qd := Int64.ofInt D) (p := p) (g := g) (sf := upd sf (t * 7 + k) (nI f)) (sb := upd sb (t * 7 + k) (nI b)) (lv := lv) (nr := upd nr (t * 7 + k) (Int32.ofInt N)) (rs := rs) (w := w) (cr := cr) (cs := cs) (F := nI f) (G := nI b) ht hc hk3 pk_us pk_us hno hH
      have hss : S * S ≤ 9600 * 9600 := (ht_mulb hS hS).2
      have hss0 := ht_sq S
      have hq2 : Int64.ofInt (S * S) * Int64.ofInt D < Int64.ofInt T * Int64.ofInt N := by
        rw [(ht_cmp (T := S * S) (d := D) (U := T) (D := N) (by omega) (by omega) (by omega) (by omega)).1]
        exact hlt
      have hN0 : 0 < N := by
        apply Int.lt_of_not_ge
        intro z
        obtain rfl : N = 0 := by omega
        rw [Int.mul_zero] at hlt
        have h := Int.mul_nonneg hss0 (show 0 ≤ D by omega)
        omega
      have hf6 : ¬ nI f = -6 := by
        intro e
        have h := ht_nneg hf
        rw [e] at h
        exact h ht_m6
      refine ⟨0, nI f, nI b, Int64.ofInt T, Int64.ofInt D, upd sf (t * 7 + k) (nI f), upd sb (t * 7 + k) (nI b), lv, upd nr (t * 7 + k) (Int32.ofInt N), _, cr', cs', upd (upd (upd yf (t * 7 + k) (nI f)) (t * 7 + (2 * k + 1)) (-6)) (t * 7 + (2 * k + 2)) (-6), ht_Isp (F := nI f) (G := nI b) ht hk3 hf hth hI rfl g1 g2 g3, Or.inr ⟨?_, rfl⟩, fun post h => ?_, fun post h => ?_⟩
      · rw [pk_un (by omega), pk_un (by omega), pk_us]
        exact hf6
      · unfold wpX_grow
        refine ht_xsn ht hk hH eN eS (fun z => absurd z (by omega)) (fun _ => ⟨nI f, nI b, Int64.ofInt T, Int64.ofInt D, hX, ?_⟩)
        refine ht_x48s hat hN hS (ht_nneg hf) hq2 ?_
        rw [ht_us hl0]
        refine br_f (by decide) (hP _ ?_)
        exact br_f (by decide) h
      · refine ht_yse ht hc hk hN hS eN eS (fun z => absurd z (by omega)) (fun _ hN0 post' hpost => ?_)
        refine hY post' 4 (by omega) (fun n' => ?_)
        refine br_t (nI_le (a := 3) (b := 3) (by omega) (by decide)) ?_
        rw [nI_clamp (by omega), pk_us]
        refine ⟨vp_in_nI hat (by omega), br_f (ht_nneg hf) (ht_ysend ht hc hk3 (hpost _ _ _ _ _ _ _ _ _ _ _ ?_))⟩
        rw [pk_us, pk_us]
        refine ht_y52n hat ?_ h
        rw [pk_un (by omega), pk_un (by omega), pk_us]
        exact hf6
  · refine ⟨1, -1, qb, qt, qd, upd sf (t * 7 + k) (-6), sb, upd lv (t * 7 + k) (ht_lf N S), upd nr (t * 7 + k) (Int32.ofInt N), w, cr, cs, yf, ht_Ile ht hk hth hlf hI, Or.inl ⟨hy6, rfl⟩, fun post h => ?_, fun post h => ?_⟩
    · unfold wpX_grow
      refine ht_xsn ht hk hH eN eS (fun _ => ?_) (fun z => absurd z hk3)
      refine ht_x48l hat hN hS (Or.inl (by decide)) ?_
      exact br_t rfl (br_t rfl h)
    · exact ht_yse ht hc hk hN hS eN eS (fun _ => ht_y52l hat hy6 hl0 h) (fun z => absurd z hk3)
end
end
section
/-! train -/
theorem ht_par {t k : Nat} (h0 : 0 < k) (h : k < 7) : nI t * 7 + (nI k - 1) / 2 = nI (t * 7 + (k - 1) / 2) := by
  obtain ⟨j, rfl⟩ : ∃ j, k = j + 1 := ⟨k - 1, by omega⟩
  rw [nI_pred, show (2 : Int32) = nI 2 from rfl, pk_div (by omega) (by omega) (by omega), ht_at, Nat.add_sub_cancel]
theorem ht_t7 (t : Nat) : nI t * 7 = nI (t * 7) := by
  rw [show (7 : Int32) = nI 7 from rfl, pk_mul]
section
variable {l c t : Nat} {qf qb : Int32} {qt qd : Int64} {p g sf sb lv nr rs w cr cs : Nat → Int32}
theorem ht_lp (ht : t < 4) (hl : l ≤ 12) (hl1 : 1 ≤ l) (hc : c ≤ 24) (hr : ∀ i, i < c → -(50 * 2 ^ t) ≤ (rs i).toInt ∧ (rs i).toInt ≤ 50 * 2 ^ t) : ∀ (d k : Nat) (v qf qb : Int32) (qt qd : Int64) (sf sb lv nr w cr cs yf : Nat → Int32), k + d = 7 → ht_Inv k t c p rs w sf yf lv cr cs → ∃ (v' qf' qb' : Int32) (qt' qd' : Int64) (sf' sb' lv' nr' w' cr' cs' yf' : Nat → Int32), ht_Inv 7 t c p rs w' sf' yf' lv' cr' cs'
    ∧ (∀ (post : Int32 → SX → Prop) (n : Nat), d < n → post v' (nI l, nI c, nI (t + 1), qf', qb', qt', qd', p, g, sf', sb', lv', nr', rs, w', cr', cs') → wX_train_110 post (nI t) n v (nI k) (nI l) (nI c) (nI t) qf qb qt qd p g sf sb lv nr rs w cr cs)
    ∧ (∀ (post : Int32 → SY → Prop) (n : Nat), d < n → post v' (nI l, nI c, nI (t + 1), p, g, yf', sb', lv', nr', rs, w') → wY_train_107 post (nI (t * 7)) n v (nI k) (nI l) (nI c) (nI t) p g yf sb lv nr rs w) := by
  intro d
  induction d with
  | zero =>
    intro k v qf qb qt qd sf sb lv nr w cr cs yf hk hI
    obtain rfl : k = 7 := by omega
    refine ⟨v, qf, qb, qt, qd, sf, sb, lv, nr, w, cr, cs, yf, hI, fun post n hn h => ?_, fun post n hn h => ?_⟩
    · obtain ⟨n, rfl⟩ : ∃ k, n = k + 1 := ⟨n - 1, by omega⟩
      exact br_t (nI_le (a := 7) (b := 7) (by omega) (by decide)) (nm_r (nI_1 t) h)
    · obtain ⟨n, rfl⟩ : ∃ k, n = k + 1 := ⟨n - 1, by omega⟩
      exact br_t (nI_le (a := 7) (b := 7) (by omega) (by decide)) (nm_r (nI_1 t) h)
  | succ d ih =>
    intro k v qf qb qt qd sf sb lv nr w cr cs yf hk hI
    have hin : vp_in (nI (t * 7 + k)) 28 := vp_in_nI (by omega) (by omega)
    have hinp : vp_in (nI (t * 7 + (k - 1) / 2)) 28 := vp_in_nI (by omega) (by omega)
    by_cases hth : ht_th t sf k
    · have hy6 : yf (t * 7 + k) = -6 := (hI.2.2.1 k (Nat.le_refl k) (by omega)).2.1 hth
      obtain ⟨r, qf1, qb1, qt1, qd1, sf1, sb1, lv1, nr1, w1, cr1, cs1, yf1, hI1, hR, hGX, hGY⟩ := ht_gs (l := l) (c := c) (t := t) (qf := qf) (qb := qb) (qt := qt) (qd := qd) (p := p) (g := g) (sf := sf) (sb := sb) (lv := lv) (nr := nr) (rs := rs) (w := w) (cr := cr) (cs := cs) (yf := yf) ht hl hl1 hc (k := k) (by omega) hr hI hth
      obtain ⟨v', qf', qb', qt', qd', sf', sb', lv', nr', w', cr', cs', yf', hI', hX, hY⟩ := ih (k + 1) (v + r) qf1 qb1 qt1 qd1 sf1 sb1 lv1 nr1 w1 cr1 cs1 yf1 (by omega) hI1
      refine ⟨v', qf', qb', qt', qd', sf', sb', lv', nr', w', cr', cs', yf', hI', fun post n hn h => ?_, fun post n hn h => ?_⟩
      · obtain ⟨n, rfl⟩ : ∃ k, n = k + 1 := ⟨n - 1, by omega⟩
        have H : wX_train_138 post (wX_train_110 post (nI t) n) (nI t) v (nI k) (nI l) (nI c) (nI t) qf qb qt qd p g sf sb lv nr rs w cr cs := by
          unfold wX_train_138 wX_train_143
          refine br_f (by decide) (hGX _ ?_)
          exact nm_e (nm_r (nI_1 k) (hX post n (by omega) h))
        refine br_f (nI_ge (a := k) (b := 7) (by omega) (by decide)) ?_
        by_cases k0 : k = 0
        · subst k0
          exact br_t rfl H
        · rw [ht_par (by omega) (by omega), nI_clamp (by omega)]
          exact br_f (nI_ne0 (by omega) (by omega)) ⟨by decide, hinp, br_f (hth.resolve_left k0) H⟩
      · obtain ⟨n, rfl⟩ : ∃ k, n = k + 1 := ⟨n - 1, by omega⟩
        refine br_f (nI_ge (a := k) (b := 7) (by omega) (by decide)) ?_
        rw [nI_add, nI_clamp (by omega)]
        refine ⟨hin, br_t hy6 (hGY _ ?_)⟩
        rcases hR with ⟨h6, rfl⟩ | ⟨h6, rfl⟩
        · exact ⟨hin, br_t h6 (nm_e (nm_r (nI_1 k) (hY post n (by omega) h)))⟩
        · rw [Int32.add_zero] at hY
          exact ⟨hin, br_f h6 (nm_r (nI_1 k) (hY post n (by omega) h))⟩
    · have hy7 : yf (t * 7 + k) = -7 := (hI.2.2.1 k (Nat.le_refl k) (by omega)).2.2 hth
      obtain ⟨v', qf', qb', qt', qd', sf', sb', lv', nr', w', cr', cs', yf', hI', hX, hY⟩ := ih (k + 1) v qf qb qt qd sf sb lv nr w cr cs yf (by omega) (ht_Isk (by omega) hth hI)
      refine ⟨v', qf', qb', qt', qd', sf', sb', lv', nr', w', cr', cs', yf', hI', fun post n hn h => ?_, fun post n hn h => ?_⟩
      · obtain ⟨n, rfl⟩ : ∃ k, n = k + 1 := ⟨n - 1, by omega⟩
        have k0 : ¬ k = 0 := fun z => hth (Or.inl z)
        have hz : sf (t * 7 + (k - 1) / 2) < 0 := Decidable.byContradiction (fun z => hth (Or.inr z))
        refine br_f (nI_ge (a := k) (b := 7) (by omega) (by decide)) ?_
        rw [ht_par (by omega) (by omega), nI_clamp (by omega)]
        refine br_f (nI_ne0 (by omega) (by omega)) ⟨by decide, hinp, br_t hz ?_⟩
        exact br_t rfl (nm_r (nI_1 k) (hX post n (by omega) h))
      · obtain ⟨n, rfl⟩ : ∃ k, n = k + 1 := ⟨n - 1, by omega⟩
        refine br_f (nI_ge (a := k) (b := 7) (by omega) (by decide)) ?_
        rw [nI_add, nI_clamp (by omega), hy7]
        exact ⟨hin, br_f ht_m67 (nm_r (nI_1 k) (hY post n (by omega) h))⟩
theorem ht_x18 {post : Int32 → SX → Prop} (ht : t < 4) (hc : c ≤ 24) (K : ∀ n', wX_train_18 post (nI t) (nI l) (nI c) (nI t) qf qb qt qd (n' + 1) (nI c) p g sf sb lv nr (ht_fr 0 c (fun i => g i - ht_pa sf sb lv (p i) t) rs) (ht_fr 0 c (fun _ => 0) w) cr cs) : ∀ d i n, i + d = c → d < n → wX_train_18 post (nI t) (nI l) (nI c) (nI t) qf qb qt qd n (nI i) p g sf sb lv nr (ht_fr 0 i (fun i => g i - ht_pa sf sb lv (p i) t) rs) (ht_fr 0 i (fun _ => 0) w) cr cs := by
  intro d
  induction d with
  | zero =>
    intro i n hi hn
    obtain ⟨n, rfl⟩ : ∃ k, n = k + 1 := ⟨n - 1, by omega⟩
    obtain rfl : i = c := by omega
    exact K n
  | succ d ih =>
    intro i n hi hn
    obtain ⟨n, rfl⟩ : ∃ k, n = k + 1 := ⟨n - 1, by omega⟩
    have hin : vp_in (nI i) 24 := vp_in_nI (by omega) (by omega)
    refine br_f (nI_ge (by omega) (by omega)) (ht_xro (by omega) (by omega) ?_)
    rw [nI_clamp (by omega)]
    exact ⟨hin, nm_r (ht_fl i _ _ rfl) ⟨hin, nm_r (ht_fl i _ _ rfl) (nm_r (nI_1 i) (ih (i + 1) n (by omega) (by omega)))⟩⟩
theorem ht_x52 {post : Int32 → SX → Prop} (ht : t < 4) (K : ∀ n', wX_train_52 post (nI t) (nI l) (nI c) (nI t) qf qb qt qd (n' + 1) (nI 7) p g (ht_fr (t * 7) 7 (fun _ => -7) sf) sb (ht_fr (t * 7) 7 (fun _ => 0) lv) (ht_fr (t * 7) 7 (fun _ => 0) nr) rs w cr cs) : ∀ d k n, k + d = 7 → d < n → wX_train_52 post (nI t) (nI l) (nI c) (nI t) qf qb qt qd n (nI k) p g (ht_fr (t * 7) k (fun _ => -7) sf) sb (ht_fr (t * 7) k (fun _ => 0) lv) (ht_fr (t * 7) k (fun _ => 0) nr) rs w cr cs := by
  intro d
  induction d with
  | zero =>
    intro k n hk hn
    obtain ⟨n, rfl⟩ : ∃ k, n = k + 1 := ⟨n - 1, by omega⟩
    obtain rfl : k = 7 := by omega
    exact K n
  | succ d ih =>
    intro k n hk hn
    obtain ⟨n, rfl⟩ : ∃ k, n = k + 1 := ⟨n - 1, by omega⟩
    have hin : vp_in (nI (t * 7 + k)) 28 := vp_in_nI (by omega) (by omega)
    refine br_f (nI_ge (a := k) (b := 7) (by omega) (by decide)) ?_
    rw [ht_at, nI_clamp (by omega)]
    exact ⟨hin, nm_r (ht_frs _ _ _ _ rfl) ⟨hin, nm_r (ht_frs _ _ _ _ rfl) ⟨hin, nm_r (ht_frs _ _ _ _ rfl) (nm_r (nI_1 k) (ih (k + 1) n (by omega) (by omega)))⟩⟩⟩
theorem ht_y13 {post : Int32 → SY → Prop} (ht : t < 4) (hc : c ≤ 24) (K : ∀ n', wY_train_13 post (nI l) (nI c) (nI t) (n' + 1) (nI c) p g sf sb lv nr (ht_fr 0 c (fun i => g i - ht_pa sf sb lv (p i) t) rs) (ht_fr 0 c (fun _ => 0) w)) : ∀ d i n, i + d = c → d < n → wY_train_13 post (nI l) (nI c) (nI t) n (nI i) p g sf sb lv nr (ht_fr 0 i (fun i => g i - ht_pa sf sb lv (p i) t) rs) (ht_fr 0 i (fun _ => 0) w) := by
  intro d
  induction d with
  | zero =>
    intro i n hi hn
    obtain ⟨n, rfl⟩ : ∃ k, n = k + 1 := ⟨n - 1, by omega⟩
    obtain rfl : i = c := by omega
    exact K n
  | succ d ih =>
    intro i n hi hn
    obtain ⟨n, rfl⟩ : ∃ k, n = k + 1 := ⟨n - 1, by omega⟩
    have hin : vp_in (nI i) 24 := vp_in_nI (by omega) (by omega)
    refine br_f (nI_ge (by omega) (by omega)) (ht_yre (by omega) hc (by omega) ?_)
    rw [nI_clamp (by omega)]
    exact ⟨hin, nm_r (ht_fl i _ _ rfl) ⟨hin, nm_r (ht_fl i _ _ rfl) (nm_r (nI_1 i) (ih (i + 1) n (by omega) (by omega)))⟩⟩
theorem ht_y55 {post : Int32 → SY → Prop} (ht : t < 4) (K : ∀ n', wY_train_55 post (nI (t * 7)) (nI l) (nI c) (nI t) (n' + 1) (nI 7) p g (ht_fr (t * 7) 7 (fun _ => -7) sf) sb (ht_fr (t * 7) 7 (fun _ => 0) lv) (ht_fr (t * 7) 7 (fun _ => 0) nr) rs w) : ∀ d k n, k + d = 7 → d < n → wY_train_55 post (nI (t * 7)) (nI l) (nI c) (nI t) n (nI k) p g (ht_fr (t * 7) k (fun _ => -7) sf) sb (ht_fr (t * 7) k (fun _ => 0) lv) (ht_fr (t * 7) k (fun _ => 0) nr) rs w := by
  intro d
  induction d with
  | zero =>
    intro k n hk hn
    obtain ⟨n, rfl⟩ : ∃ k, n = k + 1 := ⟨n - 1, by omega⟩
    obtain rfl : k = 7 := by omega
    exact K n
  | succ d ih =>
    intro k n hk hn
    obtain ⟨n, rfl⟩ : ∃ k, n = k + 1 := ⟨n - 1, by omega⟩
    have hin : vp_in (nI (t * 7 + k)) 28 := vp_in_nI (by omega) (by omega)
    refine br_f (nI_ge (a := k) (b := 7) (by omega) (by decide)) ?_
    rw [nI_add, nI_clamp (by omega)]
    exact ⟨hin, nm_r (ht_frs _ _ _ _ rfl) ⟨hin, nm_r (ht_frs _ _ _ _ rfl) ⟨hin, nm_r (ht_frs _ _ _ _ rfl) (nm_r (nI_1 k) (ih (k + 1) n (by omega) (by omega)))⟩⟩⟩
theorem ht_train (ht : t < 4) (hl : l ≤ 12) (hl1 : 1 ≤ l) (hc : c ≤ 24) (hg : ∀ i, i < c → -50 ≤ (g i).toInt ∧ (g i).toInt ≤ 50) (hS : ht_SF sf) (hL : ht_LV lv) : ∃ (v' qf' qb' : Int32) (qt' qd' : Int64) (sf' sb' lv' nr' rs' w' cr' cs' : Nat → Int32), ht_SF sf' ∧ ht_LV lv'
    ∧ (∀ (post : Int32 → SX → Prop), post v' (nI l, nI c, nI (t + 1), qf', qb', qt', qd', p, g, sf', sb', lv', nr', rs', w', cr', cs') → wpX_train post (nI l, nI c, nI t, qf, qb, qt, qd, p, g, sf, sb, lv, nr, rs, w, cr, cs))
    ∧ (∀ (post : Int32 → SY → Prop), post v' (nI l, nI c, nI (t + 1), p, g, sf', sb', lv', nr', rs', w') → wpY_train post (nI l, nI c, nI t, p, g, sf, sb, lv, nr, rs, w)) := by
  have hr : ∀ i, i < c → -(50 * 2 ^ t) ≤ (ht_fr 0 c (fun i => g i - ht_pa sf sb lv (p i) t) rs i).toInt ∧ (ht_fr 0 c (fun i => g i - ht_pa sf sb lv (p i) t) rs i).toInt ≤ 50 * 2 ^ t := by
    intro i hi
    rw [ht_fl1 hi]
    exact ht_rb hL ht (hg i hi)
  obtain ⟨cr1, cs1, hH, _, _, hF⟩ := ht_xfr (l := l) (c := c) (t := t) (qf := qf) (qb := qb) (qt := qt) (qd := qd) (p := p) (g := g) (sf := ht_fr (t * 7) 7 (fun _ => -7) sf) (sb := sb) (lv := ht_fr (t * 7) 7 (fun _ => 0) lv) (nr := ht_fr (t * 7) 7 (fun _ => 0) nr) (rs := ht_fr 0 c (fun i => g i - ht_pa sf sb lv (p i) t) rs) (w := ht_fr 0 c (fun _ => 0) w) (cr := cr) (cs := cs) (m := 0) (by omega) hc
  have hI : ht_Inv 0 t c p (ht_fr 0 c (fun i => g i - ht_pa sf sb lv (p i) t) rs) (ht_fr 0 c (fun _ => 0) w) (ht_fr (t * 7) 7 (fun _ => -7) sf) (upd (ht_fr (t * 7) 7 (fun _ => -7) sf) (t * 7) (-6)) (ht_fr (t * 7) 7 (fun _ => 0) lv) cr1 cs1 := by
    refine ⟨fun i hi => ⟨0, by omega, ht_fl1 hi⟩, fun j hj => pk_un (by omega), fun j _ hj => ⟨ht_fri hj, fun z => ?_, fun z => ?_⟩, fun j _ hj => ht_fri hj, fun j _ hj _ _ => ?_, fun j => ?_, fun s j hs hj => ?_⟩
    · rcases z with rfl | z
      · exact pk_us
      · rw [ht_fri (by omega)] at z
        exact absurd ht_m7 z
    · have j0 : ¬ j = 0 := fun e => z (Or.inl e)
      rw [pk_un (by omega), ht_fri hj]
    · obtain rfl : j = 0 := by omega
      exact hH
    · by_cases hj : t * 7 ≤ j ∧ j < t * 7 + 7
      · obtain ⟨q, rfl⟩ : ∃ q, j = t * 7 + q := ⟨j - t * 7, by omega⟩
        rw [ht_fri (by omega)]
        exact Or.inl ht_m7
      · rw [ht_fro (by omega)]
        exact hS j
    · by_cases e : s = t
      · subst e
        rw [ht_fri hj, show (0 : Int32).toInt = 0 from by decide]
        have h := ht_2p s hs
        omega
      · rw [ht_fro (by omega)]
        exact hL s j hs hj
  obtain ⟨v', qf', qb', qt', qd', sf', sb', lv', nr', w', cr', cs', yf', hI', hX, hY⟩ := ht_lp (l := l) (c := c) (t := t) (p := p) (g := g) (rs := ht_fr 0 c (fun i => g i - ht_pa sf sb lv (p i) t) rs) ht hl hl1 hc hr 7 0 0 qf qb qt qd (ht_fr (t * 7) 7 (fun _ => -7) sf) sb (ht_fr (t * 7) 7 (fun _ => 0) lv) (ht_fr (t * 7) 7 (fun _ => 0) nr) (ht_fr 0 c (fun _ => 0) w) cr1 cs1 _ (by omega) hI
  have ey : yf' = sf' := by
    funext j
    exact hI'.2.1 j (by omega)
  subst ey
  refine ⟨v', qf', qb', qt', qd', yf', sb', lv', nr', ht_fr 0 c (fun i => g i - ht_pa sf sb lv (p i) t) rs, w', cr', cs', hI'.2.2.2.2.2.1, hI'.2.2.2.2.2.2, fun post h => ?_, fun post h => ?_⟩
  · have h52 := ht_x52 (post := post) (l := l) (c := c) (t := t) (qf := qf) (qb := qb) (qt := qt) (qd := qd) (p := p) (g := g) (sf := sf) (sb := sb) (lv := lv) (nr := nr) (rs := ht_fr 0 c (fun i => g i - ht_pa sf sb lv (p i) t) rs) (w := ht_fr 0 c (fun _ => 0) w) (cr := cr) (cs := cs) ht (fun n' => br_t (nI_le (a := 7) (b := 7) (by omega) (by decide)) (hF _ (Exists.intro 8 (hX post 8 (by omega) h)))) 7 0 8 (by omega) (by omega)
    rw [ht_fr0, ht_fr0, ht_fr0] at h52
    have h18 := ht_x18 (post := post) (l := l) (c := c) (t := t) (qf := qf) (qb := qb) (qt := qt) (qd := qd) (p := p) (g := g) (sf := sf) (sb := sb) (lv := lv) (nr := nr) (rs := rs) (w := w) (cr := cr) (cs := cs) ht hc (fun n' => br_t (nI_le (by omega) (by omega)) (Exists.intro 8 h52)) c 0 (c + 1) (by omega) (by omega)
    rw [ht_fr0, ht_fr0] at h18
    exact br_t (nI_lt (a := t) (b := 4) ht (by decide)) (Exists.intro (c + 1) h18)
  · have h55 := ht_y55 (post := post) (l := l) (c := c) (t := t) (p := p) (g := g) (sf := sf) (sb := sb) (lv := lv) (nr := nr) (rs := ht_fr 0 c (fun i => g i - ht_pa sf sb lv (p i) t) rs) (w := ht_fr 0 c (fun _ => 0) w) ht (fun n' => br_t (nI_le (a := 7) (b := 7) (by omega) (by decide)) (And.intro (vp_in_nI (by omega) (by omega)) (nm_r (e' := upd (ht_fr (t * 7) 7 (fun _ => -7) sf) (t * 7) (-6)) (by rw [nI_clamp (by omega)]) (Exists.intro 8 (hY post 8 (by omega) h))))) 7 0 8 (by omega) (by omega)
    rw [ht_fr0, ht_fr0, ht_fr0] at h55
    have h13 := ht_y13 (post := post) (l := l) (c := c) (t := t) (p := p) (g := g) (sf := sf) (sb := sb) (lv := lv) (nr := nr) (rs := rs) (w := w) ht hc (fun n' => br_t (nI_le (by omega) (by omega)) (nm_r (ht_t7 t) (Exists.intro 8 h55))) c 0 (c + 1) (by omega) (by omega)
    rw [ht_fr0, ht_fr0] at h13
    refine br_f ?_ (Exists.intro (c + 1) h13)
    show ¬ nI t = nI 4
    rw [nI_eq (by omega) (by omega)]
    omega
end
end
section
/-! the other calls, each side by itself with a general post -/
theorem ht_50 {x : Int32} (h1 : ¬ x < -50) (h2 : x ≤ 50) : -50 ≤ x.toInt ∧ x.toInt ≤ 50 := by
  rw [Int32.lt_iff_toInt_lt, show (-50 : Int32).toInt = -50 from by decide] at h1
  rw [Int32.le_iff_toInt_le, show (50 : Int32).toInt = 50 from by decide] at h2
  omega
section
variable {l c t : Nat} {qf qb : Int32} {qt qd : Int64} {p g sf sb lv nr rs w cr cs : Nat → Int32}
theorem ht_ybt1 {post : Int32 → Prop} {x : Int32} (hb : x < -50 ∨ ¬ x ≤ 50) (h : post 1) : wpY_badTarget post (nI l, nI c, nI t, p, g, sf, sb, lv, nr, rs, w) x := by
  by_cases z : x < -50
  · exact br_t z h
  · exact br_f z (br_f (hb.resolve_left z) h)
theorem ht_ybt0 {post : Int32 → Prop} {x : Int32} (h1 : ¬ x < -50) (h2 : x ≤ 50) (h : post 0) : wpY_badTarget post (nI l, nI c, nI t, p, g, sf, sb, lv, nr, rs, w) x := br_f h1 (br_t h2 h)
theorem ht_xrow1 {post : Int32 → SX → Prop} {a b : Int32} (hb : b < -50 ∨ ¬ b ≤ 50) (h : post (-2) (nI l, nI c, nI t, qf, qb, qt, qd, p, g, sf, sb, lv, nr, rs, w, cr, cs)) : wpX_row post (nI l, nI c, nI t, qf, qb, qt, qd, p, g, sf, sb, lv, nr, rs, w, cr, cs) a b := by
  by_cases z : b < -50
  · exact br_t z h
  · exact br_f z (br_f (hb.resolve_left z) h)
theorem ht_xrow2 {post : Int32 → SX → Prop} {a b : Int32} (h1 : ¬ b < -50) (h2 : b ≤ 50) (hc : c = 24) (h : post (-3) (nI l, nI c, nI t, qf, qb, qt, qd, p, g, sf, sb, lv, nr, rs, w, cr, cs)) : wpX_row post (nI l, nI c, nI t, qf, qb, qt, qd, p, g, sf, sb, lv, nr, rs, w, cr, cs) a b :=
  br_f h1 (br_t h2 (br_f (nI_nlt (a := c) (b := 24) (by omega) (by omega)) h))
theorem ht_xrow3 {post : Int32 → SX → Prop} {a b : Int32} (h1 : ¬ b < -50) (h2 : b ≤ 50) (hc : c < 24) (h : post (nI (c + 1)) (nI l, nI (c + 1), nI t, qf, qb, qt, qd, upd p c (a &&& 511), upd g c b, sf, sb, lv, nr, rs, w, cr, cs)) : wpX_row post (nI l, nI c, nI t, qf, qb, qt, qd, p, g, sf, sb, lv, nr, rs, w, cr, cs) a b := by
  have hin : vp_in (nI c) 24 := vp_in_nI hc (by omega)
  refine br_f h1 (br_t h2 (br_t (nI_lt (a := c) (b := 24) hc (by decide)) ?_))
  rw [nI_clamp (by omega)]
  exact ⟨hin, nm_e ⟨hin, nm_e (nm_r (nI_1 c) h)⟩⟩
theorem ht_yrow1 {post : Int32 → SY → Prop} {a b : Int32} (hb : b < -50 ∨ ¬ b ≤ 50) (h : post (-2) (nI l, nI c, nI t, p, g, sf, sb, lv, nr, rs, w)) : wpY_row post (nI l, nI c, nI t, p, g, sf, sb, lv, nr, rs, w) a b := by
  unfold wpY_row
  exact ht_ybt1 hb (br_f (by decide) h)
theorem ht_yrow2 {post : Int32 → SY → Prop} {a b : Int32} (h1 : ¬ b < -50) (h2 : b ≤ 50) (hc : c = 24) (h : post (-3) (nI l, nI c, nI t, p, g, sf, sb, lv, nr, rs, w)) : wpY_row post (nI l, nI c, nI t, p, g, sf, sb, lv, nr, rs, w) a b := by
  unfold wpY_row
  refine ht_ybt0 h1 h2 (br_t rfl (br_t ?_ h))
  rw [hc]
  rfl
theorem ht_yrow3 {post : Int32 → SY → Prop} {a b : Int32} (h1 : ¬ b < -50) (h2 : b ≤ 50) (hc : c < 24) (h : post (nI (c + 1)) (nI l, nI (c + 1), nI t, upd p c (a &&& 511), upd g c b, sf, sb, lv, nr, rs, w)) : wpY_row post (nI l, nI c, nI t, p, g, sf, sb, lv, nr, rs, w) a b := by
  have hin : vp_in (nI c) 24 := vp_in_nI hc (by omega)
  have hne : ¬ nI c = 24 := by
    show ¬ nI c = nI 24
    rw [nI_eq (by omega) (by omega)]
    omega
  unfold wpY_row
  refine ht_ybt0 h1 h2 (br_t rfl (br_f hne ?_))
  rw [nI_clamp (by omega)]
  exact ⟨hin, nm_e ⟨hin, nm_e (nm_r (nI_1 c) h)⟩⟩
theorem ht_xret1 {post : Int32 → SX → Prop} {a b : Int32} (ha : a < 0 ∨ ¬ a < nI c) (h : post (-5) (nI l, nI c, nI t, qf, qb, qt, qd, p, g, sf, sb, lv, nr, rs, w, cr, cs)) : wpX_retarget post (nI l, nI c, nI t, qf, qb, qt, qd, p, g, sf, sb, lv, nr, rs, w, cr, cs) a b := by
  by_cases z : a < 0
  · exact br_t z h
  · exact br_f z (br_f (ha.resolve_left z) h)
theorem ht_yret1 {post : Int32 → SY → Prop} {a b : Int32} (ha : a < 0 ∨ ¬ a < nI c) (h : post (-5) (nI l, nI c, nI t, p, g, sf, sb, lv, nr, rs, w)) : wpY_retarget post (nI l, nI c, nI t, p, g, sf, sb, lv, nr, rs, w) a b := by
  by_cases z : a < 0
  · exact br_t z h
  · exact br_f z (br_f (ha.resolve_left z) h)
theorem ht_xret2 {post : Int32 → SX → Prop} {i : Nat} {b : Int32} (hc : c ≤ 24) (hi : i < c) (hb : b < -50 ∨ ¬ b ≤ 50) (h : post (-2) (nI l, nI c, nI t, qf, qb, qt, qd, p, g, sf, sb, lv, nr, rs, w, cr, cs)) : wpX_retarget post (nI l, nI c, nI t, qf, qb, qt, qd, p, g, sf, sb, lv, nr, rs, w, cr, cs) (nI i) b := by
  refine br_f (nI_pos (by omega)) (br_t (nI_lt hi (by omega)) ?_)
  by_cases z : b < -50
  · exact br_t z h
  · exact br_f z (br_f (hb.resolve_left z) h)
theorem ht_yret2 {post : Int32 → SY → Prop} {i : Nat} {b : Int32} (hc : c ≤ 24) (hi : i < c) (hb : b < -50 ∨ ¬ b ≤ 50) (h : post (-2) (nI l, nI c, nI t, p, g, sf, sb, lv, nr, rs, w)) : wpY_retarget post (nI l, nI c, nI t, p, g, sf, sb, lv, nr, rs, w) (nI i) b :=
  br_f (nI_pos (by omega)) (br_t (nI_lt hi (by omega)) (ht_ybt1 hb (br_f (by decide) h)))
theorem ht_xret3 {post : Int32 → SX → Prop} {i : Nat} {b : Int32} (hc : c ≤ 24) (hi : i < c) (h1 : ¬ b < -50) (h2 : b ≤ 50) (h : post (g i) (nI l, nI c, nI t, qf, qb, qt, qd, p, upd g i b, sf, sb, lv, nr, rs, w, cr, cs)) : wpX_retarget post (nI l, nI c, nI t, qf, qb, qt, qd, p, g, sf, sb, lv, nr, rs, w, cr, cs) (nI i) b := by
  have hin : vp_in (nI i) 24 := vp_in_nI (by omega) (by omega)
  refine br_f (nI_pos (by omega)) (br_t (nI_lt hi (by omega)) (br_f h1 (br_t h2 ?_)))
  rw [nI_clamp (by omega)]
  exact ⟨hin, nm_e ⟨hin, nm_e h⟩⟩
theorem ht_yret3 {post : Int32 → SY → Prop} {i : Nat} {b : Int32} (hc : c ≤ 24) (hi : i < c) (h1 : ¬ b < -50) (h2 : b ≤ 50) (h : post (g i) (nI l, nI c, nI t, p, upd g i b, sf, sb, lv, nr, rs, w)) : wpY_retarget post (nI l, nI c, nI t, p, g, sf, sb, lv, nr, rs, w) (nI i) b := by
  have hin : vp_in (nI i) 24 := vp_in_nI (by omega) (by omega)
  refine br_f (nI_pos (by omega)) (br_t (nI_lt hi (by omega)) (ht_ybt0 h1 h2 (br_t rfl ?_)))
  rw [nI_clamp (by omega)]
  exact ⟨hin, nm_e ⟨hin, nm_e h⟩⟩
theorem ht_xprd {post : Int32 → Prop} {x : Int32} (ht : t ≤ 4) (hS : ht_SF sf) (h : post (ht_pa sf sb lv x t)) : wpX_predict post (nI l, nI c, nI t, qf, qb, qt, qd, p, g, sf, sb, lv, nr, rs, w, cr, cs) x := by
  unfold wpX_predict
  refine ht_xpa ht ?_
  rw [ht_pam hS]
  exact h
theorem ht_xres0 {post : Int32 → Prop} {a : Int32} (ha : a < 0 ∨ ¬ a < nI c) (h : post 0) : wpX_rest post (nI l, nI c, nI t, qf, qb, qt, qd, p, g, sf, sb, lv, nr, rs, w, cr, cs) a := by
  by_cases z : a < 0
  · exact br_t z h
  · exact br_f z (br_f (ha.resolve_left z) h)
theorem ht_yres0 {post : Int32 → Prop} {a : Int32} (ha : a < 0 ∨ ¬ a < nI c) (h : post 0) : wpY_rest post (nI l, nI c, nI t, p, g, sf, sb, lv, nr, rs, w) a := by
  by_cases z : a < 0
  · exact br_t z h
  · exact br_f z (br_f (ha.resolve_left z) h)
theorem ht_xres1 {post : Int32 → Prop} {i : Nat} (ht : t ≤ 4) (hc : c ≤ 24) (hi : i < c) (h : post (g i - ht_pa sf sb lv (p i) t)) : wpX_rest post (nI l, nI c, nI t, qf, qb, qt, qd, p, g, sf, sb, lv, nr, rs, w, cr, cs) (nI i) :=
  br_f (nI_pos (by omega)) (br_t (nI_lt hi (by omega)) (ht_xro ht (by omega) h))
theorem ht_nn (ht : t ≤ 4) (a b : Int32) : (∃ s j : Nat, a = nI s ∧ b = nI j ∧ s < t ∧ j < 7 ∧ (∀ post : Int32 → Prop, post 0 → wpX_noNode post (nI l, nI c, nI t, qf, qb, qt, qd, p, g, sf, sb, lv, nr, rs, w, cr, cs) a b) ∧ (∀ post : Int32 → Prop, post 0 → wpY_none post (nI l, nI c, nI t, p, g, sf, sb, lv, nr, rs, w) a b)) ∨ ((∀ post : Int32 → Prop, post 1 → wpX_noNode post (nI l, nI c, nI t, qf, qb, qt, qd, p, g, sf, sb, lv, nr, rs, w, cr, cs) a b) ∧ (∀ post : Int32 → Prop, post 1 → wpY_none post (nI l, nI c, nI t, p, g, sf, sb, lv, nr, rs, w) a b)) := by
  by_cases a0 : a < 0
  · exact Or.inr ⟨fun _ h => br_t a0 h, fun _ h => br_t a0 h⟩
  · by_cases at1 : nI t ≤ a
    · exact Or.inr ⟨fun _ h => br_f a0 (br_t at1 h), fun _ h => br_f a0 (br_t at1 h)⟩
    · by_cases b0 : b < 0
      · exact Or.inr ⟨fun _ h => br_f a0 (br_f at1 (br_t b0 h)), fun _ h => br_f a0 (br_f at1 (br_t b0 h))⟩
      · obtain ⟨s, hs, rfl⟩ := nI_of a0
        obtain ⟨j, hj, rfl⟩ := nI_of b0
        have at2 := at1
        rw [nI_leI (by omega) hs] at at2
        by_cases b7 : j < 7
        · exact Or.inl ⟨s, j, rfl, rfl, by omega, b7, fun _ h => br_f a0 (br_f at1 (br_f b0 (br_t (nI_lt (a := j) (b := 7) b7 (by decide)) h))), fun _ h => br_f a0 (br_f at1 (br_f b0 (br_t (nI_le (a := j) (b := 6) (by omega) (by decide)) h)))⟩
        · exact Or.inr ⟨fun _ h => br_f a0 (br_f at1 (br_f b0 (br_f (nI_nlt (a := j) (b := 7) (by omega) hj) h))), fun _ h => br_f a0 (br_f at1 (br_f b0 (br_f (nI_ge (a := 6) (b := j) (by omega) hj) h)))⟩
end
/-- the sum of the squares of the first rests -/
def ht_ls (R : Nat → Int32) : Nat → Int32
  | 0 => 0
  | i + 1 => ht_ls R i + R i * R i
section
variable {l c t : Nat} {qf qb : Int32} {qt qd : Int64} {p g sf sb lv nr rs w cr cs : Nat → Int32}
theorem ht_xlo {post : Int32 → Prop} (ht : t ≤ 4) (hc : c ≤ 24) (h : post (ht_ls (fun i => g i - ht_pa sf sb lv (p i) t) c)) : wpX_loss post (nI l, nI c, nI t, qf, qb, qt, qd, p, g, sf, sb, lv, nr, rs, w, cr, cs) := by
  have L : ∀ d i n, i + d = c → d < n → wX_loss_4 post (nI l) (nI c) (nI t) qf qb qt qd p g sf sb lv nr rs w cr cs n (ht_ls (fun i => g i - ht_pa sf sb lv (p i) t) i) (nI i) := by
    intro d
    induction d with
    | zero =>
      intro i n hi hn
      obtain ⟨n, rfl⟩ : ∃ k, n = k + 1 := ⟨n - 1, by omega⟩
      obtain rfl : i = c := by omega
      exact br_t (nI_le (by omega) (by omega)) h
    | succ d ih =>
      intro i n hi hn
      obtain ⟨n, rfl⟩ : ∃ k, n = k + 1 := ⟨n - 1, by omega⟩
      exact br_f (nI_ge (by omega) (by omega)) (ht_xro ht (by omega) (nm_e (nm_r (nI_1 i) (ih (i + 1) n (by omega) (by omega)))))
  exact Exists.intro (c + 1) (L c 0 (c + 1) (by omega) (by omega))
theorem ht_ylo {post : Int32 → Prop} (ht : t ≤ 4) (hc : c ≤ 24) (h : post (ht_ls (fun i => g i - ht_pa sf sb lv (p i) t) c)) : wpY_loss post (nI l, nI c, nI t, p, g, sf, sb, lv, nr, rs, w) := by
  have L : ∀ d i n, i + d = c → d < n → wY_loss_4 post (nI l) (nI c) (nI t) p g sf sb lv nr rs w n (ht_ls (fun i => g i - ht_pa sf sb lv (p i) t) i) (nI i) := by
    intro d
    induction d with
    | zero =>
      intro i n hi hn
      obtain ⟨n, rfl⟩ : ∃ k, n = k + 1 := ⟨n - 1, by omega⟩
      obtain rfl : i = c := by omega
      exact br_t (nI_le (by omega) (by omega)) h
    | succ d ih =>
      intro i n hi hn
      obtain ⟨n, rfl⟩ : ∃ k, n = k + 1 := ⟨n - 1, by omega⟩
      exact br_f (nI_ge (by omega) (by omega)) (ht_yre ht hc (by omega) (nm_e (nm_r (nI_1 i) (ih (i + 1) n (by omega) (by omega)))))
  exact Exists.intro (c + 1) (L c 0 (c + 1) (by omega) (by omega))
end
end
section
/-! the relation and what is owed -/
def ht_R (l c t : Nat) (g sf lv : Nat → Int32) : Prop := 1 ≤ l ∧ l ≤ 12 ∧ c ≤ 24 ∧ t ≤ 4 ∧ (∀ i, i < c → -50 ≤ (g i).toInt ∧ (g i).toInt ≤ 50) ∧ ht_SF sf ∧ ht_LV lv
/-- both sides hold the same rows, trees, rests and places; the component's cells and its best split are free -/
def i_Rel (k : Nat) (u : SX) (v : SY) : Prop := ∃ (l c t : Nat) (qf qb : Int32) (qt qd : Int64) (p g sf sb lv nr rs w cr cs : Nat → Int32), u = (nI l, nI c, nI t, qf, qb, qt, qd, p, g, sf, sb, lv, nr, rs, w, cr, cs) ∧ v = (nI l, nI c, nI t, p, g, sf, sb, lv, nr, rs, w) ∧ ht_R l c t g sf lv
theorem i_up {k : Nat} {u : SX} {v : SY} (h : i_Rel k u v) : i_Rel (k + 3) u v := h
theorem ht_el {P : SX → SY → Prop} {k : Nat} {u : SX} {v : SY} (h : ∀ (l c t : Nat) (qf qb : Int32) (qt qd : Int64) (p g sf sb lv nr rs w cr cs : Nat → Int32), ht_R l c t g sf lv → P (nI l, nI c, nI t, qf, qb, qt, qd, p, g, sf, sb, lv, nr, rs, w, cr, cs) (nI l, nI c, nI t, p, g, sf, sb, lv, nr, rs, w)) (I : i_Rel k u v) : P u v := by
  obtain ⟨l, c, t, qf, qb, qt, qd, p, g, sf, sb, lv, nr, rs, w, cr, cs, rfl, rfl, hR⟩ := I
  exact h l c t qf qb qt qd p g sf sb lv nr rs w cr cs hR
theorem ht_rel {l c t : Nat} {qf qb : Int32} {qt qd : Int64} {p g sf sb lv nr rs w cr cs : Nat → Int32} (k : Nat) (hR : ht_R l c t g sf lv) : i_Rel k (nI l, nI c, nI t, qf, qb, qt, qd, p, g, sf, sb, lv, nr, rs, w, cr, cs) (nI l, nI c, nI t, p, g, sf, sb, lv, nr, rs, w) := ⟨l, c, t, qf, qb, qt, qd, p, g, sf, sb, lv, nr, rs, w, cr, cs, rfl, rfl, hR⟩
theorem ht_SF0 : ht_SF (fun _ => 0) := fun _ => Or.inr (Or.inl rfl)
theorem ht_LV0 : ht_LV (fun _ => 0) := by
  intro s j hs hj
  have h := ht_2p s hs
  show -(50 * 2 ^ s) ≤ (0 : Int32).toInt ∧ (0 : Int32).toInt ≤ 50 * 2 ^ s
  rw [show (0 : Int32).toInt = 0 from by decide]
  omega
theorem ht_R0 {l : Nat} (h1 : 1 ≤ l) (h2 : l ≤ 12) : ht_R l 0 0 (fun _ => 0) (fun _ => 0) (fun _ => 0) := ⟨h1, h2, by omega, by omega, fun i hi => absurd hi (by omega), ht_SF0, ht_LV0⟩
theorem i_vc0 (k0 : Int32) : wpX_init (fun u => wpY_init (fun v => i_Rel 1 u v) k0) k0 := by
  by_cases h1 : 1 ≤ k0
  · by_cases h12 : k0 ≤ 12
    · have h0 : ¬ k0 < 0 := by
        intro z
        exact absurd (Int32.lt_of_le_of_lt h1 z) (by decide)
      obtain ⟨j, hj, rfl⟩ := nI_of2 (M := 12) (n := 12) (by decide) h0 h12
      have hj1 : 1 ≤ j := (nI_leI (a := 1) (b := j) (by omega) (by omega)).mp h1
      exact br_t h1 (br_t h12 (br_t h1 (br_t h12 (ht_rel (c := 0) (t := 0) 1 (ht_R0 hj1 hj)))))
    · exact br_t h1 (br_f h12 (br_t h1 (br_f h12 (ht_rel (l := 12) (c := 0) (t := 0) 1 (ht_R0 (by omega) (by omega))))))
  · exact br_f h1 (br_t (by decide) (br_f h1 (br_t (by decide) (ht_rel (l := 1) (c := 0) (t := 0) 1 (ht_R0 (by omega) (by omega))))))
theorem i_vc_row {k : Nat} {u : SX} {v : SY} (I : i_Rel k u v) (hk : k + 3 ≤ 1537) (v1 : Int32) (v2 : Int32) : wpX_row (fun r u' => wpY_row (fun r' v' => r' = r ∧ i_Rel (k + 3) u' v') v v1 v2) u v1 v2 := by
  refine ht_el (P := fun u v => wpX_row (fun r u' => wpY_row (fun r' v' => r' = r ∧ i_Rel (k + 3) u' v') v v1 v2) u v1 v2) ?_ I
  intro l c t qf qb qt qd p g sf sb lv nr rs w cr cs hR
  by_cases z1 : v2 < -50
  · exact ht_xrow1 (Or.inl z1) (ht_yrow1 (Or.inl z1) ⟨rfl, ht_rel _ hR⟩)
  · by_cases z2 : v2 ≤ 50
    · obtain ⟨a1, a2, a3, a4, a5, a6, a7⟩ := hR
      by_cases hc : c < 24
      · refine ht_xrow3 z1 z2 hc (ht_yrow3 z1 z2 hc ⟨rfl, ht_rel _ ⟨a1, a2, by omega, a4, fun i hi => ?_, a6, a7⟩⟩)
        by_cases e : i = c
        · rw [e, pk_us]
          exact ht_50 z1 z2
        · rw [pk_un e]
          exact a5 i (by omega)
      · exact ht_xrow2 z1 z2 (by omega) (ht_yrow2 z1 z2 (by omega) ⟨rfl, ht_rel _ ⟨a1, a2, a3, a4, a5, a6, a7⟩⟩)
    · exact ht_xrow1 (Or.inr z2) (ht_yrow1 (Or.inr z2) ⟨rfl, ht_rel _ hR⟩)
theorem i_vc_retarget {k : Nat} {u : SX} {v : SY} (I : i_Rel k u v) (hk : k + 3 ≤ 1537) (v1 : Int32) (v2 : Int32) : wpX_retarget (fun r u' => wpY_retarget (fun r' v' => r' = r ∧ i_Rel (k + 3) u' v') v v1 v2) u v1 v2 := by
  refine ht_el (P := fun u v => wpX_retarget (fun r u' => wpY_retarget (fun r' v' => r' = r ∧ i_Rel (k + 3) u' v') v v1 v2) u v1 v2) ?_ I
  intro l c t qf qb qt qd p g sf sb lv nr rs w cr cs hR
  by_cases y1 : v1 < 0
  · exact ht_xret1 (Or.inl y1) (ht_yret1 (Or.inl y1) ⟨rfl, ht_rel _ hR⟩)
  · by_cases y2 : v1 < nI c
    · obtain ⟨a1, a2, a3, a4, a5, a6, a7⟩ := hR
      obtain ⟨i, hi, rfl⟩ := nI_of y1
      rw [nI_ltI hi (by omega)] at y2
      by_cases z1 : v2 < -50
      · exact ht_xret2 a3 y2 (Or.inl z1) (ht_yret2 a3 y2 (Or.inl z1) ⟨rfl, ht_rel _ ⟨a1, a2, a3, a4, a5, a6, a7⟩⟩)
      · by_cases z2 : v2 ≤ 50
        · refine ht_xret3 a3 y2 z1 z2 (ht_yret3 a3 y2 z1 z2 ⟨rfl, ht_rel _ ⟨a1, a2, a3, a4, fun j hj => ?_, a6, a7⟩⟩)
          by_cases e : j = i
          · rw [e, pk_us]
            exact ht_50 z1 z2
          · rw [pk_un e]
            exact a5 j hj
        · exact ht_xret2 a3 y2 (Or.inr z2) (ht_yret2 a3 y2 (Or.inr z2) ⟨rfl, ht_rel _ ⟨a1, a2, a3, a4, a5, a6, a7⟩⟩)
    · exact ht_xret1 (Or.inr y2) (ht_yret1 (Or.inr y2) ⟨rfl, ht_rel _ hR⟩)
theorem i_vc_train {k : Nat} {u : SX} {v : SY} (I : i_Rel k u v) (hk : k + 3 ≤ 1537) : wpX_train (fun r u' => wpY_train (fun r' v' => r' = r ∧ i_Rel (k + 3) u' v') v) u := by
  refine ht_el (P := fun u v => wpX_train (fun r u' => wpY_train (fun r' v' => r' = r ∧ i_Rel (k + 3) u' v') v) u) ?_ I
  intro l c t qf qb qt qd p g sf sb lv nr rs w cr cs hR
  obtain ⟨a1, a2, a3, a4, a5, a6, a7⟩ := hR
  by_cases h4 : t < 4
  · obtain ⟨v', qf', qb', qt', qd', sf', sb', lv', nr', rs', w', cr', cs', b6, b7, hX, hY⟩ := ht_train (l := l) (c := c) (t := t) (qf := qf) (qb := qb) (qt := qt) (qd := qd) (p := p) (g := g) (sf := sf) (sb := sb) (lv := lv) (nr := nr) (rs := rs) (w := w) (cr := cr) (cs := cs) h4 a2 a1 a3 a5 a6 a7
    exact hX _ (hY _ ⟨rfl, ht_rel _ ⟨a1, a2, a3, by omega, a5, b6, b7⟩⟩)
  · obtain rfl : t = 4 := by omega
    exact br_f (nI_nlt (a := 4) (b := 4) (by omega) (by decide)) (br_t rfl ⟨rfl, ht_rel _ ⟨a1, a2, a3, a4, a5, a6, a7⟩⟩)
theorem i_vc_dropTree {k : Nat} {u : SX} {v : SY} (I : i_Rel k u v) (hk : k + 3 ≤ 1537) : wpX_dropTree (fun r u' => wpY_dropTree (fun r' v' => r' = r ∧ i_Rel (k + 3) u' v') v) u := by
  refine ht_el (P := fun u v => wpX_dropTree (fun r u' => wpY_dropTree (fun r' v' => r' = r ∧ i_Rel (k + 3) u' v') v) u) ?_ I
  intro l c t qf qb qt qd p g sf sb lv nr rs w cr cs hR
  by_cases h0 : t = 0
  · subst h0
    exact br_t rfl (br_t rfl ⟨rfl, ht_rel _ hR⟩)
  · obtain ⟨s, rfl⟩ : ∃ s, t = s + 1 := ⟨t - 1, by omega⟩
    obtain ⟨a1, a2, a3, a4, a5, a6, a7⟩ := hR
    have hne : ¬ nI (s + 1) = 0 := nI_ne0 (by omega) (by omega)
    exact br_f hne (nm_r (nI_pred s) (br_f hne (nm_r (nI_pred s) ⟨rfl, ht_rel _ ⟨a1, a2, a3, by omega, a5, a6, a7⟩⟩)))
theorem i_vc_clear {k : Nat} {u : SX} {v : SY} (I : i_Rel k u v) (hk : k + 3 ≤ 1537) : wpX_clear (fun u' => wpY_clear (fun v' => i_Rel (k + 3) u' v') v) u := by
  refine ht_el (P := fun u v => wpX_clear (fun u' => wpY_clear (fun v' => i_Rel (k + 3) u' v') v) u) ?_ I
  intro l c t qf qb qt qd p g sf sb lv nr rs w cr cs hR
  obtain ⟨a1, a2, a3, a4, a5, a6, a7⟩ := hR
  exact ht_rel (c := 0) (t := 0) (k + 3) ⟨a1, a2, by omega, by omega, fun i hi => absurd hi (by omega), a6, a7⟩
theorem i_vc_predict {k : Nat} {u : SX} {v : SY} (I : i_Rel k u v) (hk : k + 3 ≤ 1537) (v1 : Int32) : wpX_predict (fun r => wpY_predict (fun r' => r' = r ∧ i_Rel (k + 3) u v) v v1) u v1 := by
  refine ht_el (P := fun u v => wpX_predict (fun r => wpY_predict (fun r' => r' = r ∧ i_Rel (k + 3) u v) v v1) u v1) ?_ I
  intro l c t qf qb qt qd p g sf sb lv nr rs w cr cs hR
  exact ht_xprd hR.2.2.2.1 hR.2.2.2.2.2.1 (ht_ypr hR.2.2.2.1 ⟨rfl, ht_rel _ hR⟩)
theorem i_vc_rest {k : Nat} {u : SX} {v : SY} (I : i_Rel k u v) (hk : k + 3 ≤ 1537) (v1 : Int32) : wpX_rest (fun r => wpY_rest (fun r' => r' = r ∧ i_Rel (k + 3) u v) v v1) u v1 := by
  refine ht_el (P := fun u v => wpX_rest (fun r => wpY_rest (fun r' => r' = r ∧ i_Rel (k + 3) u v) v v1) u v1) ?_ I
  intro l c t qf qb qt qd p g sf sb lv nr rs w cr cs hR
  by_cases y1 : v1 < 0
  · exact ht_xres0 (Or.inl y1) (ht_yres0 (Or.inl y1) ⟨rfl, ht_rel _ hR⟩)
  · by_cases y2 : v1 < nI c
    · obtain ⟨i, hi, rfl⟩ := nI_of y1
      have a3 := hR.2.2.1
      have a4 := hR.2.2.2.1
      rw [nI_ltI hi (by omega)] at y2
      exact ht_xres1 a4 a3 y2 (ht_yre a4 a3 y2 ⟨rfl, ht_rel _ hR⟩)
    · exact ht_xres0 (Or.inr y2) (ht_yres0 (Or.inr y2) ⟨rfl, ht_rel _ hR⟩)
theorem i_vc_loss {k : Nat} {u : SX} {v : SY} (I : i_Rel k u v) (hk : k + 3 ≤ 1537) : wpX_loss (fun r => wpY_loss (fun r' => r' = r ∧ i_Rel (k + 3) u v) v) u := by
  refine ht_el (P := fun u v => wpX_loss (fun r => wpY_loss (fun r' => r' = r ∧ i_Rel (k + 3) u v) v) u) ?_ I
  intro l c t qf qb qt qd p g sf sb lv nr rs w cr cs hR
  exact ht_xlo hR.2.2.2.1 hR.2.2.1 (ht_ylo hR.2.2.2.1 hR.2.2.1 ⟨rfl, ht_rel _ hR⟩)
theorem i_vc_feature {k : Nat} {u : SX} {v : SY} (I : i_Rel k u v) (hk : k + 3 ≤ 1537) (v1 : Int32) (v2 : Int32) : wpX_feature (fun r => wpY_feature (fun r' => r' = r ∧ i_Rel (k + 3) u v) v v1 v2) u v1 v2 := by
  refine ht_el (P := fun u v => wpX_feature (fun r => wpY_feature (fun r' => r' = r ∧ i_Rel (k + 3) u v) v v1 v2) u v1 v2) ?_ I
  intro l c t qf qb qt qd p g sf sb lv nr rs w cr cs hR
  have ht := hR.2.2.2.1
  unfold wpX_feature wpY_feature
  rcases ht_nn (l := l) (c := c) (qf := qf) (qb := qb) (qt := qt) (qd := qd) (p := p) (g := g) (sf := sf) (sb := sb) (lv := lv) (nr := nr) (rs := rs) (w := w) (cr := cr) (cs := cs) ht v1 v2 with ⟨s, j, rfl, rfl, hs, hj, hX, hY⟩ | ⟨hX, hY⟩
  · have hin : vp_in (nI (s * 7 + j)) 28 := vp_in_nI (by omega) (by omega)
    refine hX _ ?_
    rw [ht_at, nI_clamp (by omega)]
    exact br_t rfl ⟨hin, hY _ (br_t rfl ⟨hin, rfl, ht_rel _ hR⟩)⟩
  · exact hX _ (br_f (by decide) (hY _ (br_f (by decide) ⟨rfl, ht_rel _ hR⟩)))
theorem i_vc_bound {k : Nat} {u : SX} {v : SY} (I : i_Rel k u v) (hk : k + 3 ≤ 1537) (v1 : Int32) (v2 : Int32) : wpX_bound (fun r => wpY_bound (fun r' => r' = r ∧ i_Rel (k + 3) u v) v v1 v2) u v1 v2 := by
  refine ht_el (P := fun u v => wpX_bound (fun r => wpY_bound (fun r' => r' = r ∧ i_Rel (k + 3) u v) v v1 v2) u v1 v2) ?_ I
  intro l c t qf qb qt qd p g sf sb lv nr rs w cr cs hR
  have ht := hR.2.2.2.1
  unfold wpX_bound wpY_bound
  rcases ht_nn (l := l) (c := c) (qf := qf) (qb := qb) (qt := qt) (qd := qd) (p := p) (g := g) (sf := sf) (sb := sb) (lv := lv) (nr := nr) (rs := rs) (w := w) (cr := cr) (cs := cs) ht v1 v2 with ⟨s, j, rfl, rfl, hs, hj, hX, hY⟩ | ⟨hX, hY⟩
  · have hin : vp_in (nI (s * 7 + j)) 28 := vp_in_nI (by omega) (by omega)
    refine hX _ ?_
    rw [ht_at, nI_clamp (by omega)]
    by_cases z : 0 ≤ sf (s * 7 + j)
    · exact br_t rfl ⟨hin, nm_e (br_t z ⟨hin, hY _ (br_t rfl ⟨hin, nm_e (br_t z ⟨hin, rfl, ht_rel _ hR⟩)⟩)⟩)⟩
    · exact br_t rfl ⟨hin, nm_e (br_f z (hY _ (br_t rfl ⟨hin, nm_e (br_f z ⟨rfl, ht_rel _ hR⟩)⟩)))⟩
  · exact hX _ (br_f (by decide) (hY _ (br_f (by decide) ⟨rfl, ht_rel _ hR⟩)))
theorem i_vc_value {k : Nat} {u : SX} {v : SY} (I : i_Rel k u v) (hk : k + 3 ≤ 1537) (v1 : Int32) (v2 : Int32) : wpX_value (fun r => wpY_value (fun r' => r' = r ∧ i_Rel (k + 3) u v) v v1 v2) u v1 v2 := by
  refine ht_el (P := fun u v => wpX_value (fun r => wpY_value (fun r' => r' = r ∧ i_Rel (k + 3) u v) v v1 v2) u v1 v2) ?_ I
  intro l c t qf qb qt qd p g sf sb lv nr rs w cr cs hR
  have ht := hR.2.2.2.1
  unfold wpX_value wpY_value
  rcases ht_nn (l := l) (c := c) (qf := qf) (qb := qb) (qt := qt) (qd := qd) (p := p) (g := g) (sf := sf) (sb := sb) (lv := lv) (nr := nr) (rs := rs) (w := w) (cr := cr) (cs := cs) ht v1 v2 with ⟨s, j, rfl, rfl, hs, hj, hX, hY⟩ | ⟨hX, hY⟩
  · have hin : vp_in (nI (s * 7 + j)) 28 := vp_in_nI (by omega) (by omega)
    refine hX _ ?_
    rw [ht_at, nI_clamp (by omega)]
    by_cases z : sf (s * 7 + j) = -6
    · exact br_t rfl ⟨hin, br_t z ⟨hin, hY _ (br_t rfl ⟨hin, br_t z ⟨hin, rfl, ht_rel _ hR⟩⟩)⟩⟩
    · exact br_t rfl ⟨hin, br_f z (hY _ (br_t rfl ⟨hin, br_f z ⟨rfl, ht_rel _ hR⟩⟩))⟩
  · exact hX _ (br_f (by decide) (hY _ (br_f (by decide) ⟨rfl, ht_rel _ hR⟩)))
theorem i_vc_rows {k : Nat} {u : SX} {v : SY} (I : i_Rel k u v) (hk : k + 3 ≤ 1537) (v1 : Int32) (v2 : Int32) : wpX_rows (fun r => wpY_rows (fun r' => r' = r ∧ i_Rel (k + 3) u v) v v1 v2) u v1 v2 := by
  refine ht_el (P := fun u v => wpX_rows (fun r => wpY_rows (fun r' => r' = r ∧ i_Rel (k + 3) u v) v v1 v2) u v1 v2) ?_ I
  intro l c t qf qb qt qd p g sf sb lv nr rs w cr cs hR
  have ht := hR.2.2.2.1
  unfold wpX_rows wpY_rows
  rcases ht_nn (l := l) (c := c) (qf := qf) (qb := qb) (qt := qt) (qd := qd) (p := p) (g := g) (sf := sf) (sb := sb) (lv := lv) (nr := nr) (rs := rs) (w := w) (cr := cr) (cs := cs) ht v1 v2 with ⟨s, j, rfl, rfl, hs, hj, hX, hY⟩ | ⟨hX, hY⟩
  · have hin : vp_in (nI (s * 7 + j)) 28 := vp_in_nI (by omega) (by omega)
    refine hX _ ?_
    rw [ht_at, nI_clamp (by omega)]
    exact br_t rfl ⟨hin, hY _ (br_t rfl ⟨hin, rfl, ht_rel _ hR⟩)⟩
  · exact hX _ (br_f (by decide) (hY _ (br_f (by decide) ⟨rfl, ht_rel _ hR⟩)))
end
