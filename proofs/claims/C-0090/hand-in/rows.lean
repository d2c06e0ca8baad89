section
theorem pk_us {f : Nat → Int32} {k : Nat} {x : Int32} : upd f k x k = x := if_pos rfl
theorem pk_un {f : Nat → Int32} {k j : Nat} {x : Int32} (h : j ≠ k) : upd f k x j = f j := if_neg h
theorem pk_sub {a b : Nat} (h : b ≤ a) : nI a - nI b = nI (a - b) := by
  obtain ⟨c, rfl⟩ : ∃ c, a = c + b := ⟨a - b, by omega⟩
  rw [← nI_add, Int32.add_sub_cancel, Nat.add_sub_cancel]
theorem pk_m1 (n : Nat) : nI (n + 1) + (-1) = nI n := by
  rw [← nI_1, Int32.add_assoc, show (1 : Int32) + (-1) = 0 from rfl, Int32.add_zero]
theorem pk_mul (a b : Nat) : nI a * nI b = nI (a * b) := (Int32.ofNat_mul a b).symm
theorem pk_sub_toInt {a b : Nat} (ha : a < 2 ^ 30) (hb : b < 2 ^ 30) : (nI a - nI b).toInt = (a : Int) - b := by
  rw [Int32.toInt_sub, nI_toInt (by omega), nI_toInt (by omega)]
  exact Int.bmod_eq_of_le (by omega) (by omega)
theorem pk_sneg {a b : Nat} (hb : b < 2 ^ 30) (h : a < b) : nI a - nI b < 0 := by
  rw [Int32.lt_iff_toInt_lt, pk_sub_toInt (by omega) hb, show (0 : Int32).toInt = 0 from by decide]
  omega
theorem pk_ix (x : Int32) {n : Nat} (hn : n < 2 ^ 31) : x < 0 ∨ nI n ≤ x ∨ ∃ j : Nat, j < n ∧ x = nI j := by
  by_cases h : x < 0
  · exact Or.inl h
  · obtain ⟨j, hj, rfl⟩ := nI_of h
    by_cases h2 : j < n
    · exact Or.inr (Or.inr ⟨j, h2, rfl⟩)
    · exact Or.inr (Or.inl (nI_le (by omega) hj))
theorem pk_le {x y : Int32} {A B : Prop} (a b : Nat) (f : a ≤ b → A) (g : b < a → B) (hx : x = nI a := by rfl) (hy : y = nI b := by rfl) (ha : a < 2 ^ 31 := by omega) (hb : b < 2 ^ 31 := by omega) : (x ≤ y → A) ∧ (¬ x ≤ y → B) := by
  subst hx hy
  rw [nI_leI ha hb]
  exact ⟨f, fun z => g (by omega)⟩
theorem pk_lt {x y : Int32} {A B : Prop} (a b : Nat) (f : a < b → A) (g : b ≤ a → B) (hx : x = nI a := by rfl) (hy : y = nI b := by rfl) (ha : a < 2 ^ 31 := by omega) (hb : b < 2 ^ 31 := by omega) : (x < y → A) ∧ (¬ x < y → B) := by
  subst hx hy
  rw [nI_ltI ha hb]
  exact ⟨f, fun z => g (by omega)⟩
theorem pk_eq {x y : Int32} {A B : Prop} (a b : Nat) (f : a = b → A) (g : a ≠ b → B) (hx : x = nI a := by rfl) (hy : y = nI b := by rfl) (ha : a < 2 ^ 31 := by omega) (hb : b < 2 ^ 31 := by omega) : (x = y → A) ∧ (¬ x = y → B) := by
  subst hx hy
  rw [nI_eq ha hb]
  exact ⟨f, g⟩
theorem pk_in {x : Int32} (n N : Nat) (h : n < N) (hx : x = nI n := by rfl) (hN : N < 2 ^ 31 := by omega) : vp_in x N := by
  subst hx
  exact vp_in_nI h hN
theorem pk_cl {x : Int32} (n : Nat) (hx : x = nI n := by rfl) (h : n < 2 ^ 31 := by omega) : x.toNatClampNeg = n := by
  subst hx
  exact nI_clamp h
theorem pk_tn {n : Nat} (h : n < 2 ^ 32) : (nI n).toBitVec.toNat = n := Nat.mod_eq_of_lt h
theorem pk_and (x : Int32) {m : Int32} (k : Nat) (hm : m.toBitVec.toNat = 2 ^ k - 1) : x &&& m = nI (x.toBitVec.toNat % 2 ^ k) := by
  apply Int32.toBitVec_inj.mp
  apply BitVec.eq_of_toNat_eq
  rw [Int32.toBitVec_and, BitVec.toNat_and, hm, Nat.and_two_pow_sub_one_eq_mod]
  show _ = (BitVec.ofNat 32 _).toNat
  rw [BitVec.toNat_ofNat]
  exact (Nat.mod_eq_of_lt (Nat.lt_of_le_of_lt (Nat.mod_le _ _) x.toBitVec.isLt)).symm
theorem pk_andN {n : Nat} (h : n < 2 ^ 32) {m : Int32} (k : Nat) (hm : m.toBitVec.toNat = 2 ^ k - 1) : nI n &&& m = nI (n % 2 ^ k) := by
  rw [pk_and _ k hm, pk_tn h]
theorem pk_andE (x : Int32) {m : Int32} (k : Nat) (hm : m.toBitVec.toNat = 2 ^ k - 1) : ∃ j : Nat, j < 2 ^ k ∧ x &&& m = nI j := ⟨_, Nat.mod_lt _ (Nat.two_pow_pos k), pk_and x k hm⟩
theorem pk_andIn (x : Int32) {m : Int32} (k : Nat) (hm : m.toBitVec.toNat = 2 ^ k - 1) (hk : k ≤ 30) : vp_in (x &&& m) (2 ^ k) := by
  obtain ⟨j, hj, e⟩ := pk_andE x k hm
  rw [e]
  exact vp_in_nI hj (Nat.lt_of_le_of_lt (Nat.pow_le_pow_right (by decide) hk) (by decide))
theorem pk_shl (a s : Int32) (k : Nat) (hs : (s.toBitVec.smod 32).toNat = k) : (a <<< s).toBitVec.toNat = a.toBitVec.toNat * 2 ^ k % 2 ^ 32 := by
  show (a.toBitVec <<< (s.toBitVec.smod 32).toNat).toNat = _
  rw [hs, BitVec.toNat_shiftLeft, Nat.shiftLeft_eq]
theorem pk_shlN {n : Nat} (s : Int32) (k : Nat) (hs : (s.toBitVec.smod 32).toNat = k) (h : n * 2 ^ k < 2 ^ 32) : nI n <<< s = nI (n * 2 ^ k) := by
  apply Int32.toBitVec_inj.mp
  apply BitVec.eq_of_toNat_eq
  have hn : n < 2 ^ 32 := Nat.lt_of_le_of_lt (Nat.le_mul_of_pos_right n (Nat.two_pow_pos k)) h
  rw [pk_shl _ _ k hs, pk_tn hn, pk_tn h, Nat.mod_eq_of_lt h]
theorem pk_shr (a s : Int32) (k : Nat) (hs : (s.toBitVec.smod 32).toNat = k) : (a >>> s).toInt = a.toInt >>> k := by
  show (a.toBitVec.sshiftRight (s.toBitVec.smod 32).toNat).toInt = _
  rw [hs, BitVec.toInt_sshiftRight]
  rfl
theorem pk_shrN {n : Nat} (h : n < 2 ^ 31) (s : Int32) (k : Nat) (hs : (s.toBitVec.smod 32).toNat = k) : nI n >>> s = nI (n / 2 ^ k) := by
  apply Int32.toInt_inj.mp
  have h2 : n / 2 ^ k ≤ n := Nat.div_le_self _ _
  rw [pk_shr _ _ k hs, nI_toInt h, nI_toInt (by omega), Int.shiftRight_eq_div_pow]
  rfl
theorem pk_vb (z : Int32) : vp_nar .byte z.toInt8.toInt32 = z.toInt8.toInt32 := by rw [vp_nar_byte]; simp
theorem pk_least (P : Nat → Prop) (h : ∃ k, P k) : ∃ k, P k ∧ ∀ j, j < k → ¬ P j := by
  obtain ⟨k, hk⟩ := h
  induction k using Nat.strongRecOn with
  | ind k ih =>
    by_cases e : ∃ j, j < k ∧ P j
    · obtain ⟨j, hj, pj⟩ := e
      exact ih j hj pj
    · exact ⟨k, hk, fun j hj pj => e ⟨j, hj, pj⟩⟩
/-! ===== Int32 by its bits: bt x i ===== -/
def bt (x : Int32) (i : Nat) : Bool := x.toBitVec.getLsbD i
theorem b_ext {x y : Int32} (h : ∀ i, i < 32 → bt x i = bt y i) : x = y := Int32.toBitVec_inj.mp (BitVec.eq_of_getLsbD_eq (fun i hi => h i hi))
theorem b_or (x y : Int32) (i : Nat) : bt (x ||| y) i = (bt x i || bt y i) := by unfold bt; rw [Int32.toBitVec_or, BitVec.getLsbD_or]
theorem b_and (x y : Int32) (i : Nat) : bt (x &&& y) i = (bt x i && bt y i) := by unfold bt; rw [Int32.toBitVec_and, BitVec.getLsbD_and]
theorem b_xor (x y : Int32) (i : Nat) : bt (x ^^^ y) i = (bt x i ^^ bt y i) := by unfold bt; rw [Int32.toBitVec_xor, BitVec.getLsbD_xor]
theorem b_big {x : Int32} {i : Nat} (h : 32 ≤ i) : bt x i = false := BitVec.getLsbD_of_ge _ _ h
theorem b_255 (i : Nat) : bt 255 i = decide (i < 8) := by
  rcases Nat.lt_or_ge i 32 with h | h
  · exact (by decide +kernel : ∀ i, i < 32 → bt 255 i = decide (i < 8)) i h
  · rw [b_big h, decide_eq_false (by omega)]
theorem b_65535 (i : Nat) : bt 65535 i = decide (i < 16) := by
  rcases Nat.lt_or_ge i 32 with h | h
  · exact (by decide +kernel : ∀ i, i < 32 → bt 65535 i = decide (i < 16)) i h
  · rw [b_big h, decide_eq_false (by omega)]
theorem b_m1 : ∀ i, i < 32 → bt (-1) i = true := by decide +kernel
theorem b_0 (i : Nat) : bt 0 i = false := BitVec.getLsbD_zero
theorem s_l : ∀ n, n < 32 → ((nI n &&& 31).toBitVec.smod 32).toNat = n := by decide +kernel
theorem s_u : ∀ n, n < 32 → (((nI n).toUInt32 &&& Int32.toUInt32 31).toBitVec % 32).toNat = n := by decide +kernel
theorem b_shl (n : Nat) (hn : n < 32) (x : Int32) {i : Nat} (hi : i < 32) : bt (x <<< (nI n &&& 31)) i = (decide (n ≤ i) && bt x (i - n)) := by
  unfold bt
  rw [Int32.toBitVec_shiftLeft]
  show (x.toBitVec <<< ((nI n &&& 31).toBitVec.smod 32).toNat).getLsbD i = _
  rw [s_l n hn, BitVec.getLsbD_shiftLeft]
  rcases Nat.lt_or_ge i n with h | h
  · simp [h, Nat.not_le.mpr h]
  · simp [hi, h, Nat.not_lt.mpr h]
theorem b_ushr (n : Nat) (hn : n < 32) (x : Int32) (i : Nat) : bt ((x.toUInt32 >>> ((nI n).toUInt32 &&& Int32.toUInt32 31)).toInt32) i = bt x (n + i) := by
  show (x.toUInt32 >>> ((nI n).toUInt32 &&& Int32.toUInt32 31)).toBitVec.getLsbD i = x.toUInt32.toBitVec.getLsbD (n + i)
  rw [UInt32.toBitVec_shiftRight]
  show (x.toUInt32.toBitVec >>> (((nI n).toUInt32 &&& Int32.toUInt32 31).toBitVec % 32).toNat).getLsbD i = _
  rw [s_u n hn, BitVec.getLsbD_ushiftRight]
theorem b_sshr (n : Nat) (hn : n < 32) (x : Int32) {i : Nat} (hi : i < 32) : bt (x >>> (nI n &&& 31)) i = if n + i < 32 then bt x (n + i) else bt x 31 := by
  unfold bt
  rw [Int32.toBitVec_shiftRight]
  show (x.toBitVec.sshiftRight ((nI n &&& 31).toBitVec.smod 32).toNat).getLsbD i = _
  rw [s_l n hn, BitVec.getLsbD_sshiftRight, BitVec.msb_eq_getLsbD_last]
  simp [hi]
theorem b_shl8 (x : Int32) {i : Nat} (hi : i < 32) : bt (x <<< ((8 : Int32) &&& 31)) i = (decide (8 ≤ i) && bt x (i - 8)) := b_shl 8 (by omega) x hi
theorem b_shl16 (x : Int32) {i : Nat} (hi : i < 32) : bt (x <<< ((16 : Int32) &&& 31)) i = (decide (16 ≤ i) && bt x (i - 16)) := b_shl 16 (by omega) x hi
theorem b_shl24 (x : Int32) {i : Nat} (hi : i < 32) : bt (x <<< ((24 : Int32) &&& 31)) i = (decide (24 ≤ i) && bt x (i - 24)) := b_shl 24 (by omega) x hi
theorem b_sshr8 (x : Int32) {i : Nat} (hi : i < 32) : bt (x >>> ((8 : Int32) &&& 31)) i = if 8 + i < 32 then bt x (8 + i) else bt x 31 := b_sshr 8 (by omega) x hi
/-! ===== nI under and, xor, >>>, one bit, 65535 ===== -/
theorem nx_and (a b : Nat) : nI a &&& nI b = nI (a &&& b) := by
  apply Int32.toBitVec_inj.1
  show BitVec.ofNat 32 a &&& BitVec.ofNat 32 b = BitVec.ofNat 32 (a &&& b)
  apply BitVec.eq_of_getLsbD_eq
  intro i hi
  simp [hi]
theorem nx_xor (a b : Nat) : nI a ^^^ nI b = nI (a ^^^ b) := by
  apply Int32.toBitVec_inj.1
  show BitVec.ofNat 32 a ^^^ BitVec.ofNat 32 b = BitVec.ofNat 32 (a ^^^ b)
  apply BitVec.eq_of_getLsbD_eq
  intro i hi
  simp [hi]
end
section
/-! ===== sums over j < n; crowd, value; a flow with a potential is optimal ===== -/
def tm_S (f : Nat → Int) : Nat → Int
  | 0 => 0
  | n + 1 => tm_S f n + f n
theorem tm_S_cg {f g : Nat → Int} : ∀ n, (∀ j, j < n → f j = g j) → tm_S f n = tm_S g n
  | 0, _ => rfl
  | n + 1, h => by
    show tm_S f n + f n = tm_S g n + g n
    rw [tm_S_cg n (fun j hj => h j (by omega)), h n (by omega)]
theorem tm_S_le {f g : Nat → Int} : ∀ n, (∀ j, j < n → f j ≤ g j) → tm_S f n ≤ tm_S g n
  | 0, _ => Int.le_refl _
  | n + 1, h => by
    have a := tm_S_le n (fun j hj => h j (by omega))
    have b := h n (by omega)
    show tm_S f n + f n ≤ tm_S g n + g n
    omega
theorem tm_S_add (f g : Nat → Int) : ∀ n, tm_S (fun j => f j + g j) n = tm_S f n + tm_S g n
  | 0 => rfl
  | n + 1 => by
    show tm_S (fun j => f j + g j) n + (f n + g n) = (tm_S f n + f n) + (tm_S g n + g n)
    rw [tm_S_add f g n]; omega
theorem tm_S_sub (f g : Nat → Int) : ∀ n, tm_S (fun j => f j - g j) n = tm_S f n - tm_S g n
  | 0 => rfl
  | n + 1 => by
    show tm_S (fun j => f j - g j) n + (f n - g n) = (tm_S f n + f n) - (tm_S g n + g n)
    rw [tm_S_sub f g n]; omega
theorem tm_S_mul (c : Int) (f : Nat → Int) : ∀ n, tm_S (fun j => c * f j) n = c * tm_S f n
  | 0 => (Int.mul_zero c).symm
  | n + 1 => by
    show tm_S (fun j => c * f j) n + c * f n = c * (tm_S f n + f n)
    rw [tm_S_mul c f n, Int.mul_add]
theorem tm_S_0 : ∀ n, tm_S (fun _ => 0) n = 0
  | 0 => rfl
  | n + 1 => by
    show tm_S (fun _ => 0) n + 0 = 0
    rw [tm_S_0 n]; rfl
theorem tm_S_swap (f : Nat → Nat → Int) (m : Nat) : ∀ n, tm_S (fun j => tm_S (fun t => f j t) m) n = tm_S (fun t => tm_S (fun j => f j t) n) m
  | 0 => (tm_S_0 m).symm
  | n + 1 => by
    show tm_S (fun j => tm_S (fun t => f j t) m) n + tm_S (fun t => f n t) m = tm_S (fun t => tm_S (fun j => f j t) n + f n t) m
    rw [tm_S_add (fun t => tm_S (fun j => f j t) n) (fun t => f n t), tm_S_swap f m n]
theorem tm_S_up {f g : Nat → Int} (k : Nat) : ∀ n, k < n → (∀ j, j < n → j ≠ k → g j = f j) → tm_S g n = tm_S f n + (g k - f k)
  | 0, h, _ => absurd h (Nat.not_lt_zero k)
  | n + 1, h, hh => by
    show tm_S g n + g n = tm_S f n + f n + (g k - f k)
    by_cases e : k = n
    · subst e
      rw [tm_S_cg k (fun j hj => hh j (by omega) (by omega))]; omega
    · rw [tm_S_up k n (by omega) (fun j hj => hh j (by omega)), hh n (by omega) (fun z => e z.symm)]; omega
def tm_b (x : Bool) : Int := if x = true then 1 else 0
theorem tm_b1 : tm_b true = 1 := rfl
theorem tm_b0 : tm_b false = 0 := rfl
def tm_i (s e t : Nat) : Int := if s ≤ t ∧ t < e then 1 else 0
def tm_cr (s e : Nat → Nat) (A : Nat → Bool) (t : Nat) : Int := tm_S (fun j => tm_b (A j) * tm_i (s j) (e j) t) 8
def tm_v (g : Nat → Int) (A : Nat → Bool) : Int := tm_S (fun j => tm_b (A j) * g j) 8
theorem tm_tel (p : Nat → Int) {s e : Nat} (h : s ≤ e) : ∀ n, tm_S (fun t => tm_i s e t * (p (t + 1) - p t)) n = p (if n ≤ s then s else if n ≤ e then n else e) - p s
  | 0 => by
    rw [if_pos (Nat.zero_le s)]
    show (0 : Int) = _
    omega
  | n + 1 => by
    show tm_S (fun t => tm_i s e t * (p (t + 1) - p t)) n + tm_i s e n * (p (n + 1) - p n) = _
    rw [tm_tel p h n]
    unfold tm_i
    by_cases a : s ≤ n
    · by_cases b : n < e
      · have e1 : (if n ≤ s then s else if n ≤ e then n else e) = n := by split <;> (try split) <;> omega
        have e2 : (if n + 1 ≤ s then s else if n + 1 ≤ e then n + 1 else e) = n + 1 := by split <;> (try split) <;> omega
        rw [if_pos (show s ≤ n ∧ n < e from ⟨a, b⟩), e1, e2]; omega
      · have e1 : (if n ≤ s then s else if n ≤ e then n else e) = e := by split <;> (try split) <;> omega
        have e2 : (if n + 1 ≤ s then s else if n + 1 ≤ e then n + 1 else e) = e := by split <;> (try split) <;> omega
        rw [if_neg (show ¬ (s ≤ n ∧ n < e) by omega), e1, e2]; omega
    · have e1 : (if n ≤ s then s else if n ≤ e then n else e) = s := by split <;> (try split) <;> omega
      have e2 : (if n + 1 ≤ s then s else if n + 1 ≤ e then n + 1 else e) = s := by split <;> (try split) <;> omega
      rw [if_neg (show ¬ (s ≤ n ∧ n < e) by omega), e1, e2]; omega
def tm_Sub (A U : Nat → Bool) : Prop := ∀ j, j < 8 → A j = true → U j = true
def tm_Fit (s e : Nat → Nat) (k : Nat) (A : Nat → Bool) : Prop := ∀ t, t < 16 → tm_cr s e A t ≤ (k : Int)
def tm_Opt (s e : Nat → Nat) (g : Nat → Int) (U : Nat → Bool) (k : Nat) (A : Nat → Bool) : Prop :=
  tm_Sub A U ∧ tm_Fit s e k A ∧ ∀ B : Nat → Bool, tm_Sub B U → tm_Fit s e k B → tm_v g B ≤ tm_v g A
def tm_Pot (s e : Nat → Nat) (g : Nat → Int) (U A : Nat → Bool) (w p : Nat → Int) : Prop :=
  (∀ t, t < 16 → p t ≤ p (t + 1)) ∧ (∀ t, t < 16 → 0 < w t → p (t + 1) ≤ p t) ∧ (∀ j, j < 8 → U j = true → A j = false → p (s j) + g j ≤ p (e j)) ∧ (∀ j, j < 8 → A j = true → p (e j) - g j ≤ p (s j))
def tm_Flow (s e : Nat → Nat) (g : Nat → Int) (U : Nat → Bool) (k : Nat) (A : Nat → Bool) (w : Nat → Int) : Prop :=
  tm_Sub A U ∧ (∀ t, t < 16 → 0 ≤ w t ∧ w t + tm_cr s e A t = (k : Int)) ∧ ∃ p : Nat → Int, tm_Pot s e g U A w p ∧ ∀ t, t ≤ 16 → 0 ≤ p t ∧ p t ≤ 33554432
theorem tm_opt {s e : Nat → Nat} {g : Nat → Int} {U A : Nat → Bool} {k : Nat} {w : Nat → Int} (hd : ∀ j, j < 8 → U j = true → s j < e j ∧ e j ≤ 16) (h : tm_Flow s e g U k A w) : tm_Opt s e g U k A := by
  obtain ⟨hs, hw, p, ⟨p1, p2, p3, p4⟩, _⟩ := h
  refine ⟨hs, fun t ht => by have := hw t ht; omega, fun B hB fB => ?_⟩
  have e0 : tm_v g B - tm_v g A = tm_S (fun j => (tm_b (B j) - tm_b (A j)) * g j) 8 := by
    unfold tm_v
    rw [← tm_S_sub]
    exact tm_S_cg 8 (fun j _ => (Int.sub_mul ..).symm)
  have e1 : tm_S (fun j => (tm_b (B j) - tm_b (A j)) * g j) 8 ≤ tm_S (fun j => tm_S (fun t => (tm_b (B j) - tm_b (A j)) * (tm_i (s j) (e j) t * (p (t + 1) - p t))) 16) 8 := by
    refine tm_S_le 8 (fun j hj => ?_)
    rw [tm_S_mul (tm_b (B j) - tm_b (A j)) (fun t => tm_i (s j) (e j) t * (p (t + 1) - p t)) 16]
    have hBj := hB j hj
    have hAj := hs j hj
    have q3 := p3 j hj
    have q4 := p4 j hj
    have tl : U j = true → tm_S (fun t => tm_i (s j) (e j) t * (p (t + 1) - p t)) 16 = p (e j) - p (s j) := by
      intro hu
      obtain ⟨a, b⟩ := hd j hj hu
      rw [tm_tel p (Nat.le_of_lt a) 16]
      have : (if 16 ≤ s j then s j else if 16 ≤ e j then 16 else e j) = e j := by split <;> (try split) <;> omega
      rw [this]
    cases hb : B j <;> cases ha : A j
    · rw [tm_b0]; omega
    · rw [tm_b0, tm_b1, tl (hAj ha)]
      have := q4 ha
      omega
    · rw [tm_b0, tm_b1, tl (hBj hb)]
      have := q3 (hBj hb) ha
      omega
    · rw [tm_b1]; omega
  rw [tm_S_swap (fun j t => (tm_b (B j) - tm_b (A j)) * (tm_i (s j) (e j) t * (p (t + 1) - p t))) 16 8] at e1
  have e2 : tm_S (fun t => tm_S (fun j => (tm_b (B j) - tm_b (A j)) * (tm_i (s j) (e j) t * (p (t + 1) - p t))) 8) 16 ≤ tm_S (fun _ => 0) 16 := by
    refine tm_S_le 16 (fun t ht => ?_)
    have e3 : tm_S (fun j => (tm_b (B j) - tm_b (A j)) * (tm_i (s j) (e j) t * (p (t + 1) - p t))) 8 = (p (t + 1) - p t) * (tm_cr s e B t - tm_cr s e A t) := by
      unfold tm_cr
      rw [← tm_S_sub, ← tm_S_mul]
      refine tm_S_cg 8 (fun j _ => ?_)
      generalize tm_b (B j) = x
      generalize tm_b (A j) = y
      generalize tm_i (s j) (e j) t = z
      generalize p (t + 1) - p t = q
      grind
    show tm_S (fun j => (tm_b (B j) - tm_b (A j)) * (tm_i (s j) (e j) t * (p (t + 1) - p t))) 8 ≤ 0
    rw [e3]
    have h1 := p1 t ht
    have h2 := p2 t ht
    have h3 := hw t ht
    have h4 := fB t ht
    by_cases z : 0 < w t
    · have : p (t + 1) - p t = 0 := by have := h2 z; omega
      rw [this, Int.zero_mul]
      exact Int.le_refl _
    · exact Int.mul_nonpos_of_nonneg_of_nonpos (by omega) (by omega)
  rw [tm_S_0] at e2
  omega
end
section
/-! ===== best ways: greatest gain of a walk, grounded, counts ===== -/
theorem tm_max (P : Int → Prop) (M : Int) (h0 : P 0) (hb : ∀ c, P c → c ≤ M) : ∃ m, P m ∧ ∀ c, P c → c ≤ m := by
  have hM := hb 0 h0
  obtain ⟨k, hk, hl⟩ := pk_least (fun k : Nat => P (M - (k : Int))) ⟨M.toNat, by
    have : M - (M.toNat : Int) = 0 := by omega
    show P (M - (M.toNat : Int))
    rw [this]
    exact h0⟩
  refine ⟨M - (k : Int), hk, fun c hc => ?_⟩
  have hcM := hb c hc
  by_cases z : c ≤ M - (k : Int)
  · exact z
  · have h1 : (M - c).toNat < k := by omega
    have h2 := hl _ h1
    have h3 : M - ((M - c).toNat : Int) = c := by omega
    exact absurd (show P (M - ((M - c).toNat : Int)) by rw [h3]; exact hc) h2
def tm_Wk (R : Nat → Nat → Int → Prop) : Nat → Nat → Int → Prop
  | 0, _, c => c = 0
  | n + 1, v, c => ∃ u c1 c2, tm_Wk R n u c1 ∧ R u v c2 ∧ c = c1 + c2
theorem tm_Wk_bd {R : Nat → Nat → Int → Prop} {p : Nat → Int} (hR : ∀ u v c, R u v c → p u + c ≤ p v ∧ u ≤ 16 ∧ v ≤ 16) (hp : ∀ v, v ≤ 16 → p 0 ≤ p v) : ∀ n v c, v ≤ 16 → tm_Wk R n v c → c ≤ p v - p 0
  | 0, v, c, hv, h => by
    have h' : c = 0 := h
    have := hp v hv
    omega
  | n + 1, v, c, hv, h => by
    obtain ⟨u, c1, c2, h1, h2, h3⟩ := h
    obtain ⟨a, b, _⟩ := hR u v c2 h2
    have := tm_Wk_bd hR hp n u c1 b h1
    omega
/-- d: the greatest gain of a walk that ends in v -/
def tm_Dst (R : Nat → Nat → Int → Prop) (d : Nat → Int) : Prop :=
  (∀ u v c, R u v c → d u + c ≤ d v) ∧ (∀ v, v ≤ 16 → 0 ≤ d v) ∧
  ∀ L : Nat → Prop, (∀ v, v ≤ 16 → d v = 0 → L v) → (∃ v, v ≤ 16 ∧ ¬ L v) → ∃ u v c, R u v c ∧ L u ∧ ¬ L v ∧ d v = d u + c
theorem tm_dist {R : Nat → Nat → Int → Prop} {p : Nat → Int} (hR : ∀ u v c, R u v c → p u + c ≤ p v ∧ u ≤ 16 ∧ v ≤ 16) (hp : ∀ v, v ≤ 16 → p 0 ≤ p v) : ∃ d : Nat → Int, tm_Dst R d ∧ ∀ v, v ≤ 16 → d v ≤ p v - p 0 := by
  have H : ∀ v, ∃ m : Int, v ≤ 16 → (∃ n, tm_Wk R n v m) ∧ ∀ n c, tm_Wk R n v c → c ≤ m := by
    intro v
    by_cases hv : v ≤ 16
    · obtain ⟨m, h1, h2⟩ := tm_max (fun c => ∃ n, tm_Wk R n v c) (p v - p 0) ⟨0, rfl⟩ (fun c hc => by
        obtain ⟨n, hn⟩ := hc
        exact tm_Wk_bd hR hp n v c hv hn)
      exact ⟨m, fun _ => ⟨h1, fun n c hc => h2 c ⟨n, hc⟩⟩⟩
    · exact ⟨0, fun z => absurd z hv⟩
  have D : ∃ d : Nat → Int, ∀ v, v ≤ 16 → (∃ n, tm_Wk R n v (d v)) ∧ ∀ n c, tm_Wk R n v c → c ≤ d v :=
    ⟨fun v => Classical.choose (H v), fun v => Classical.choose_spec (H v)⟩
  obtain ⟨d, hd⟩ := D
  have F : ∀ u v c, R u v c → d u + c ≤ d v := by
    intro u v c h
    obtain ⟨_, hu, hv⟩ := hR u v c h
    obtain ⟨⟨n, hn⟩, _⟩ := hd u hu
    exact (hd v hv).2 (n + 1) (d u + c) ⟨u, d u, c, hn, h, rfl⟩
  have N : ∀ v, v ≤ 16 → 0 ≤ d v := fun v hv => (hd v hv).2 0 0 rfl
  refine ⟨d, ⟨F, N, ?_⟩, fun v hv => ?_⟩
  · intro L hL hx
    obtain ⟨x, hx, nx⟩ := hx
    refine Classical.byContradiction (fun no => ?_)
    have key : ∀ n v c, v ≤ 16 → ¬ L v → tm_Wk R n v c → c < d v := by
      intro n
      induction n with
      | zero =>
        intro v c hv nv h
        have h' : c = 0 := h
        have h1 := N v hv
        have h2 : d v ≠ 0 := fun z => nv (hL v hv z)
        omega
      | succ n ih =>
        intro v c hv nv h
        obtain ⟨u, c1, c2, h1, h2, h3⟩ := h
        obtain ⟨_, hu, _⟩ := hR u v c2 h2
        have f := F u v c2 h2
        by_cases lu : L u
        · have h4 := (hd u hu).2 n c1 h1
          have h5 : d v ≠ d u + c2 := fun z => no ⟨u, v, c2, h2, lu, nv, z⟩
          omega
        · have h4 := ih u c1 hu lu h1
          omega
    obtain ⟨⟨n, hn⟩, _⟩ := hd x hx
    have := key n x (d x) hx nx hn
    omega
  · obtain ⟨⟨n, hn⟩, _⟩ := hd v hv
    exact tm_Wk_bd hR hp n v (d v) hv hn
def tm_ct (f : Nat → Bool) : Nat → Nat
  | 0 => 0
  | n + 1 => tm_ct f n + (if f n = true then 1 else 0)
theorem tm_ct_le (f : Nat → Bool) : ∀ n, tm_ct f n ≤ n
  | 0 => Nat.le_refl 0
  | n + 1 => by
    have := tm_ct_le f n
    show tm_ct f n + (if f n = true then 1 else 0) ≤ n + 1
    split <;> omega
theorem tm_ct_mono {f g : Nat → Bool} : ∀ n, (∀ v, v < n → f v = true → g v = true) → tm_ct f n ≤ tm_ct g n
  | 0, _ => Nat.le_refl 0
  | n + 1, h => by
    have a := tm_ct_mono n (fun v hv => h v (by omega))
    have b := h n (by omega)
    show tm_ct f n + (if f n = true then 1 else 0) ≤ tm_ct g n + (if g n = true then 1 else 0)
    by_cases z : f n = true
    · rw [if_pos z, if_pos (b z)]; omega
    · rw [if_neg z]; omega
theorem tm_ct_lt {f g : Nat → Bool} (x : Nat) : ∀ n, (∀ v, v < n → f v = true → g v = true) → x < n → f x = false → g x = true → tm_ct f n < tm_ct g n
  | 0, _, hx, _, _ => absurd hx (Nat.not_lt_zero x)
  | n + 1, h, hx, h1, h2 => by
    have b := h n (by omega)
    show tm_ct f n + (if f n = true then 1 else 0) < tm_ct g n + (if g n = true then 1 else 0)
    by_cases e : x = n
    · subst e
      have a := tm_ct_mono x (fun v hv => h v (by omega))
      rw [if_neg (show ¬ f x = true by rw [h1]; decide), if_pos h2]; omega
    · have a := tm_ct_lt x n (fun v hv => h v (by omega)) (by omega) h1 h2
      by_cases z : f n = true
      · rw [if_pos z, if_pos (b z)]; omega
      · rw [if_neg z]; omega
theorem tm_ct_all {f : Nat → Bool} : ∀ n, n ≤ tm_ct f n → ∀ v, v < n → f v = true
  | 0, _, v, hv => absurd hv (Nat.not_lt_zero v)
  | n + 1, h, v, hv => by
    have h' : n + 1 ≤ tm_ct f n + (if f n = true then 1 else 0) := h
    have a := tm_ct_le f n
    by_cases z : f n = true
    · rw [if_pos z] at h'
      by_cases e : v = n
      · subst e; exact z
      · exact tm_ct_all n (by omega) v (by omega)
    · rw [if_neg z] at h'; omega
theorem tm_ct_pos {f : Nat → Bool} (x n : Nat) (hx : x < n) (h : f x = true) : 1 ≤ tm_ct f n := by
  have := tm_ct_lt (f := fun _ => false) (g := f) x n (fun v _ z => by cases z) hx rfl h
  omega
/-- stamps made small -/
theorem tm_rank (T : Nat → Nat) : ∃ r : Nat → Nat, (∀ v, v < 17 → r v ≤ 16) ∧ ∀ u v, u < 17 → T u < T v → r u < r v := by
  refine ⟨fun v => tm_ct (fun u => decide (T u < T v)) 17, fun v hv => ?_, fun u v hu h => ?_⟩
  · have a := tm_ct_le (fun u => decide (T u < T v)) 17
    by_cases z : 17 ≤ tm_ct (fun u => decide (T u < T v)) 17
    · have := of_decide_eq_true (tm_ct_all 17 z v hv)
      omega
    · show tm_ct (fun u => decide (T u < T v)) 17 ≤ 16
      omega
  · refine tm_ct_lt u 17 (fun x _ hx => ?_) hu (decide_eq_false (Nat.lt_irrefl _)) (decide_eq_true h)
    have := of_decide_eq_true hx
    exact decide_eq_true (by omega)
/-- the arcs of the net that is left: waiting 16, waiting back 17, job j, job back 8 + j -/
def tm_Arc (s e : Nat → Nat) (g : Nat → Int) (U A : Nat → Bool) (w : Nat → Int) (u v : Nat) (c : Int) (b : Nat) : Prop :=
  (b = 16 ∧ u < 16 ∧ v = u + 1 ∧ c = 0) ∨ (b = 17 ∧ v < 16 ∧ u = v + 1 ∧ c = 0 ∧ 0 < w v) ∨ (b < 8 ∧ U b = true ∧ A b = false ∧ u = s b ∧ v = e b ∧ c = g b) ∨ (∃ j, j < 8 ∧ b = 8 + j ∧ A j = true ∧ u = e j ∧ v = s j ∧ c = -(g j))
theorem tm_Arc_pot {s e : Nat → Nat} {g : Nat → Int} {U A : Nat → Bool} {w p : Nat → Int} (h : tm_Pot s e g U A w p) {u v : Nat} {c : Int} {b : Nat} (a : tm_Arc s e g U A w u v c b) : p u + c ≤ p v := by
  obtain ⟨p1, p2, p3, p4⟩ := h
  rcases a with ⟨_, hu, rfl, rfl⟩ | ⟨_, hv, rfl, rfl, hw⟩ | ⟨hb, hU, hA, rfl, rfl, rfl⟩ | ⟨j, hj, _, hA, rfl, rfl, rfl⟩
  · have := p1 u hu; omega
  · have := p2 v hv hw; omega
  · exact p3 b hb hU hA
  · have := p4 j hj hA; omega
theorem tm_pot_Arc {s e : Nat → Nat} {g : Nat → Int} {U A : Nat → Bool} {w p : Nat → Int} (h : ∀ u v c b, tm_Arc s e g U A w u v c b → p u + c ≤ p v) : tm_Pot s e g U A w p := by
  refine ⟨fun t ht => ?_, fun t ht hw => ?_, fun j hj hU hA => ?_, fun j hj hA => ?_⟩
  · have := h t (t + 1) 0 16 (Or.inl ⟨rfl, ht, rfl, rfl⟩); omega
  · have := h (t + 1) t 0 17 (Or.inr (Or.inl ⟨rfl, ht, rfl, rfl, hw⟩)); omega
  · exact h _ _ _ j (Or.inr (Or.inr (Or.inl ⟨hj, hU, hA, rfl, rfl, rfl⟩)))
  · have := h _ _ _ (8 + j) (Or.inr (Or.inr (Or.inr ⟨j, hj, rfl, hA, rfl, rfl, rfl⟩))); omega
theorem tm_mono16 {p : Nat → Int} (h : ∀ t, t < 16 → p t ≤ p (t + 1)) : ∀ v, v ≤ 16 → p 0 ≤ p v
  | 0, _ => Int.le_refl _
  | v + 1, hv => by
    have a := tm_mono16 h v (by omega)
    have b := h v (by omega)
    omega
/-- the jobs' data: within, and right where usable or used -/
def tm_Dat (s e : Nat → Nat) (g : Nat → Int) (U A : Nat → Bool) : Prop :=
  ∀ j, j < 8 → (U j = true → s j < e j) ∧ s j ≤ 16 ∧ e j ≤ 16 ∧ 0 ≤ g j ∧ g j ≤ 2097152 ∧ (A j = true → U j = true)
theorem tm_Arc_in {s e : Nat → Nat} {g : Nat → Int} {U A : Nat → Bool} {w : Nat → Int} (hd : tm_Dat s e g U A) {u v : Nat} {c : Int} {b : Nat} (a : tm_Arc s e g U A w u v c b) : u ≤ 16 ∧ v ≤ 16 ∧ u ≠ v ∧ -2097152 ≤ c ∧ c ≤ 2097152 ∧ b < 18 := by
  rcases a with ⟨rfl, hu, rfl, rfl⟩ | ⟨rfl, hv, rfl, rfl, hw⟩ | ⟨hb, hU, hA, rfl, rfl, rfl⟩ | ⟨j, hj, rfl, hA, rfl, rfl, rfl⟩
  · omega
  · omega
  · obtain ⟨h1, h2, h3, h4, h5, _⟩ := hd b hb
    have := h1 hU
    omega
  · obtain ⟨h1, h2, h3, h4, h5, h6⟩ := hd j hj
    have := h1 (h6 hA)
    omega
theorem tm_dflow {s e : Nat → Nat} {g : Nat → Int} {U A : Nat → Bool} {w p : Nat → Int} (hd : tm_Dat s e g U A) (hp : tm_Pot s e g U A w p) (hb : ∀ t, t ≤ 16 → 0 ≤ p t ∧ p t ≤ 33554432) : ∃ d : Nat → Int, tm_Dst (fun u v c => ∃ b, tm_Arc s e g U A w u v c b) d ∧ (∀ v, v ≤ 16 → d v ≤ 33554432) ∧ d 0 = 0 := by
  obtain ⟨d, h1, h2⟩ := tm_dist (R := fun u v c => ∃ b, tm_Arc s e g U A w u v c b) (p := p) (fun u v c h => by
    obtain ⟨b, hb⟩ := h
    obtain ⟨a1, a2, _⟩ := tm_Arc_in hd hb
    exact ⟨tm_Arc_pot hp hb, a1, a2⟩) (tm_mono16 hp.1)
  refine ⟨d, h1, fun v hv => ?_, ?_⟩
  · have a := h2 v hv
    have b := hb v hv
    have c := hb 0 (by omega)
    omega
  · have a := h2 0 (by omega)
    have b := h1.2.1 0 (by omega)
    omega
end
section
/-! ===== bits of an Int32 as a set ===== -/
theorem tm_b_1 : ∀ i, i < 32 → bt 1 i = decide (i = 0) := by decide +kernel
theorem tm_bv (x : Int32) {j : Nat} (hj : j < 32) : ((x >>> (nI j &&& 31)) &&& 1) = if bt x j = true then 1 else 0 := by
  apply b_ext
  intro i hi
  rw [b_and, b_sshr j hj x hi, tm_b_1 i hi]
  by_cases z : i = 0
  · subst z
    rw [if_pos (show j + 0 < 32 by omega), decide_eq_true rfl, Bool.and_true, Nat.add_zero]
    cases bt x j
    · decide
    · decide
  · rw [decide_eq_false z, Bool.and_false]
    split
    · rw [tm_b_1 i hi, decide_eq_false z]
    · rw [b_0]
theorem tm_bit0 {x : Int32} {j : Nat} (hj : j < 32) : ((x >>> (nI j &&& 31)) &&& 1) = 0 ↔ bt x j = false := by
  rw [tm_bv x hj]
  cases bt x j
  · exact ⟨fun _ => rfl, fun _ => if_neg (by decide)⟩
  · exact ⟨fun z => absurd z (by decide), fun z => absurd z (by decide)⟩
theorem tm_bit1 {x : Int32} {j : Nat} (hj : j < 32) : ((x >>> (nI j &&& 31)) &&& 1) = 1 ↔ bt x j = true := by
  rw [tm_bv x hj]
  cases bt x j
  · exact ⟨fun z => absurd z (by decide), fun z => absurd z (by decide)⟩
  · exact ⟨fun _ => rfl, fun _ => if_pos rfl⟩
theorem tm_one {j : Nat} (hj : j < 32) (i : Nat) : bt ((1 : Int32) <<< (nI j &&& 31)) i = decide (i = j) := by
  rcases Nat.lt_or_ge i 32 with hi | hi
  · rw [b_shl j hj 1 hi, tm_b_1 (i - j) (by omega)]
    by_cases z : i = j
    · subst z
      rw [decide_eq_true (Nat.le_refl i), decide_eq_true (Nat.sub_self i), decide_eq_true rfl]; rfl
    · rw [decide_eq_false z]
      by_cases y : j ≤ i
      · rw [decide_eq_false (show ¬ i - j = 0 by omega), Bool.and_false]
      · rw [decide_eq_false y, Bool.false_and]
  · rw [b_big hi, decide_eq_false (by omega)]
theorem tm_not (x : Int32) {i : Nat} (hi : i < 32) : bt (x ^^^ (-1)) i = !bt x i := by
  rw [b_xor, b_m1 i hi]
  cases bt x i <;> rfl
theorem tm_set (x : Int32) {j : Nat} (hj : j < 32) (i : Nat) : bt (x ||| ((1 : Int32) <<< (nI j &&& 31))) i = (bt x i || decide (i = j)) := by
  rw [b_or, tm_one hj]
theorem tm_clr (x : Int32) {j : Nat} (hj : j < 32) (i : Nat) : bt (x &&& (((1 : Int32) <<< (nI j &&& 31)) ^^^ (-1))) i = (bt x i && !decide (i = j)) := by
  rcases Nat.lt_or_ge i 32 with hi | hi
  · rw [b_and, tm_not _ hi, tm_one hj]
  · rw [b_big hi, b_big hi]; rfl
theorem tm_andn (x y : Int32) (i : Nat) : bt (x &&& (y ^^^ (-1))) i = (bt x i && !bt y i) := by
  rcases Nat.lt_or_ge i 32 with hi | hi
  · rw [b_and, tm_not _ hi]
  · rw [b_big hi, b_big hi]; rfl
theorem tm_eq0 {x : Int32} : x = 0 ↔ ∀ i, bt x i = false :=
  ⟨fun h i => by rw [h, b_0], fun h => b_ext (fun i _ => by rw [h i, b_0])⟩
theorem tm_sub0 {x y : Int32} : (x &&& (y ^^^ (-1))) = 0 ↔ ∀ i, bt x i = true → bt y i = true := by
  rw [tm_eq0]
  constructor
  · intro h i hx
    have := h i
    rw [tm_andn, hx] at this
    cases hy : bt y i
    · rw [hy] at this; exact this.symm
    · rfl
  · intro h i
    rw [tm_andn]
    cases hx : bt x i
    · rfl
    · rw [h i hx]; rfl
theorem tm_dis0 {x y : Int32} : (x &&& y) = 0 ↔ ∀ i, bt x i = true → bt y i = false := by
  rw [tm_eq0]
  constructor
  · intro h i hx
    have := h i
    rw [b_and, hx] at this
    exact this
  · intro h i
    rw [b_and]
    cases hx : bt x i
    · rfl
    · rw [h i hx]; rfl
def tm_low (x : Int32) : Prop := ∀ i, bt x i = true → i < 8
theorem tm_low_ex {x : Int32} (h : tm_low x) : ∃ m, m < 256 ∧ x = nI m := by
  obtain ⟨m, hm, e⟩ := pk_andE x 8 (m := 255) (by decide)
  refine ⟨m, hm, ?_⟩
  rw [← e]
  apply b_ext
  intro i _
  rw [b_and, b_255]
  cases hx : bt x i
  · rfl
  · rw [decide_eq_true (h i hx)]; rfl
theorem tm_nbt {m : Nat} (hm : m < 256) (i : Nat) : bt (nI m) i = m.testBit i := by
  unfold bt
  show (BitVec.ofNat 32 m).getLsbD i = _
  rw [BitVec.getLsbD_ofNat]
  by_cases hi : i < 32
  · rw [decide_eq_true hi, Bool.true_and]
  · rw [decide_eq_false hi, Bool.false_and]
    have : 2 ^ 8 ≤ 2 ^ i := Nat.pow_le_pow_right (by decide) (by omega)
    exact (Nat.testBit_lt_two_pow (by omega)).symm
theorem tm_nlow {m : Nat} (hm : m < 256) : tm_low (nI m) := by
  intro i h
  rw [tm_nbt hm] at h
  rcases Nat.lt_or_ge i 8 with hi | hi
  · exact hi
  · have : 2 ^ 8 ≤ 2 ^ i := Nat.pow_le_pow_right (by decide) hi
    rw [Nat.testBit_lt_two_pow (by omega)] at h
    cases h
theorem tm_encN (B : Nat → Bool) : ∀ n, ∃ m, m < 2 ^ n ∧ ∀ i, i < n → m.testBit i = B i
  | 0 => ⟨0, by decide, fun i h => absurd h (Nat.not_lt_zero i)⟩
  | n + 1 => by
    obtain ⟨m, hm, hb⟩ := tm_encN B n
    have hp : 2 ^ (n + 1) = 2 ^ n + 2 ^ n := by rw [Nat.pow_succ]; omega
    cases z : B n
    · refine ⟨m, by omega, fun i hi => ?_⟩
      by_cases e : i = n
      · subst e
        rw [z]; exact Nat.testBit_lt_two_pow hm
      · exact hb i (by omega)
    · refine ⟨2 ^ n + m, by omega, fun i hi => ?_⟩
      by_cases e : i = n
      · subst e
        rw [z, Nat.testBit_two_pow_add_eq, Nat.testBit_lt_two_pow hm]; rfl
      · rw [Nat.testBit_two_pow_add_gt (by omega)]
        exact hb i (by omega)
theorem tm_enc (B : Nat → Bool) : ∃ m, m < 256 ∧ ∀ i, i < 8 → bt (nI m) i = B i := by
  obtain ⟨m, hm, hb⟩ := tm_encN B 8
  have hm' : m < 256 := hm
  exact ⟨m, hm', fun i hi => by rw [tm_nbt hm']; exact hb i hi⟩
theorem tm_lowext {x y : Int32} (hx : tm_low x) (hy : tm_low y) (h : ∀ i, i < 8 → bt x i = bt y i) : x = y := by
  apply b_ext
  intro i _
  by_cases z : i < 8
  · exact h i z
  · have a : bt x i = false := by
      cases e : bt x i
      · rfl
      · exact absurd (hx i e) z
    have b : bt y i = false := by
      cases e : bt y i
      · rfl
      · exact absurd (hy i e) z
    rw [a, b]
/-! ===== sums over a set, in naturals ===== -/
def tm_sN (f : Nat → Nat) (A : Nat → Bool) : Nat → Nat
  | 0 => 0
  | n + 1 => tm_sN f A n + (if A n = true then f n else 0)
theorem tm_sN_S (f : Nat → Nat) (A : Nat → Bool) : ∀ n, tm_S (fun j => tm_b (A j) * (f j : Int)) n = (tm_sN f A n : Int)
  | 0 => rfl
  | n + 1 => by
    show tm_S (fun j => tm_b (A j) * (f j : Int)) n + tm_b (A n) * (f n : Int) = ((tm_sN f A n + (if A n = true then f n else 0) : Nat) : Int)
    rw [tm_sN_S f A n]
    cases A n
    · rw [if_neg (by decide), tm_b0]; omega
    · rw [if_pos rfl, tm_b1]; omega
theorem tm_vN (f : Nat → Nat) (A : Nat → Bool) : tm_v (fun j => (f j : Int)) A = (tm_sN f A 8 : Int) := tm_sN_S f A 8
theorem tm_sN_le {f : Nat → Nat} {C : Nat} (A : Nat → Bool) : ∀ n, (∀ j, j < n → f j ≤ C) → tm_sN f A n ≤ n * C
  | 0, _ => Nat.zero_le _
  | n + 1, h => by
    have a := tm_sN_le A n (fun j hj => h j (by omega))
    have b := h n (by omega)
    show tm_sN f A n + (if A n = true then f n else 0) ≤ (n + 1) * C
    rw [Nat.add_mul, Nat.one_mul]
    split <;> omega
theorem tm_sN_cg {f g : Nat → Nat} {A B : Nat → Bool} : ∀ n, (∀ j, j < n → A j = B j) → (∀ j, j < n → A j = true → f j = g j) → tm_sN f A n = tm_sN g B n
  | 0, _, _ => rfl
  | n + 1, h, hf => by
    show tm_sN f A n + (if A n = true then f n else 0) = tm_sN g B n + (if B n = true then g n else 0)
    rw [tm_sN_cg n (fun j hj => h j (by omega)) (fun j hj => hf j (by omega)), ← h n (by omega)]
    by_cases z : A n = true
    · rw [if_pos z, if_pos z, hf n (by omega) z]
    · rw [if_neg z, if_neg z]
def tm_ci (s e : Nat → Nat) (t : Nat) : Nat → Nat := fun j => if s j ≤ t ∧ t < e j then 1 else 0
theorem tm_crN (s e : Nat → Nat) (A : Nat → Bool) (t : Nat) : tm_cr s e A t = (tm_sN (tm_ci s e t) A 8 : Int) := by
  rw [← tm_sN_S]
  unfold tm_cr
  refine tm_S_cg 8 (fun j _ => ?_)
  unfold tm_i tm_ci
  by_cases z : s j ≤ t ∧ t < e j
  · rw [if_pos z, if_pos z]; rfl
  · rw [if_neg z, if_neg z]; rfl
theorem tm_ci_le (s e : Nat → Nat) (t j : Nat) : tm_ci s e t j ≤ 1 := by
  unfold tm_ci
  split <;> omega
/-- the greatest crowd at times below n -/
def tm_gc (s e : Nat → Nat) (A : Nat → Bool) : Nat → Nat
  | 0 => 0
  | n + 1 => if tm_sN (tm_ci s e n) A 8 ≤ tm_gc s e A n then tm_gc s e A n else tm_sN (tm_ci s e n) A 8
theorem tm_gc_le (s e : Nat → Nat) (A : Nat → Bool) (k : Nat) : ∀ n, tm_gc s e A n ≤ k ↔ ∀ t, t < n → tm_sN (tm_ci s e t) A 8 ≤ k
  | 0 => ⟨fun _ t ht => absurd ht (Nat.not_lt_zero t), fun _ => Nat.zero_le k⟩
  | n + 1 => by
    have ih := tm_gc_le s e A k n
    show (if tm_sN (tm_ci s e n) A 8 ≤ tm_gc s e A n then tm_gc s e A n else tm_sN (tm_ci s e n) A 8) ≤ k ↔ _
    constructor
    · intro h t ht
      by_cases z : tm_sN (tm_ci s e n) A 8 ≤ tm_gc s e A n
      · rw [if_pos z] at h
        by_cases q : t = n
        · subst q; omega
        · exact ih.mp h t (by omega)
      · rw [if_neg z] at h
        by_cases q : t = n
        · subst q; exact h
        · exact ih.mp (by omega) t (by omega)
    · intro h
      have a := ih.mpr (fun t ht => h t (by omega))
      have b := h n (by omega)
      split <;> omega
theorem tm_gc_fit (s e : Nat → Nat) (A : Nat → Bool) (k : Nat) : tm_gc s e A 16 ≤ k ↔ tm_Fit s e k A := by
  rw [tm_gc_le]
  unfold tm_Fit
  constructor
  · intro h t ht
    have := h t ht
    rw [tm_crN]; omega
  · intro h t ht
    have := h t ht
    rw [tm_crN] at this; omega
theorem tm_gc_8 (s e : Nat → Nat) (A : Nat → Bool) (n : Nat) : tm_gc s e A n ≤ 8 := by
  rw [tm_gc_le]
  intro t _
  have := tm_sN_le A 8 (f := tm_ci s e t) (C := 1) (fun j _ => tm_ci_le s e t j)
  omega
theorem tm_gc_cg (s e : Nat → Nat) {A B : Nat → Bool} (h : ∀ j, j < 8 → A j = B j) : ∀ n, tm_gc s e A n = tm_gc s e B n
  | 0 => rfl
  | n + 1 => by
    show (if tm_sN (tm_ci s e n) A 8 ≤ tm_gc s e A n then tm_gc s e A n else tm_sN (tm_ci s e n) A 8) = (if tm_sN (tm_ci s e n) B 8 ≤ tm_gc s e B n then tm_gc s e B n else tm_sN (tm_ci s e n) B 8)
    rw [tm_gc_cg s e h n, tm_sN_cg 8 h (fun _ _ _ => rfl)]
/-! ===== marked worths ===== -/
def tm_mk (j : Nat) : Nat := 2 ^ (7 - j)
def tm_mw (w : Nat → Nat) (j : Nat) : Nat := w j * 256 + tm_mk j
theorem tm_mw_sum (w : Nat → Nat) (A : Nat → Bool) : ∀ n, tm_sN (tm_mw w) A n = 256 * tm_sN w A n + tm_sN tm_mk A n
  | 0 => rfl
  | n + 1 => by
    show tm_sN (tm_mw w) A n + (if A n = true then tm_mw w n else 0) = 256 * (tm_sN w A n + (if A n = true then w n else 0)) + (tm_sN tm_mk A n + (if A n = true then tm_mk n else 0))
    rw [tm_mw_sum w A n]
    unfold tm_mw
    split <;> omega
def tm_n (x : Bool) : Nat := if x = true then 1 else 0
theorem tm_n_le (x : Bool) : tm_n x ≤ 1 := by cases x <;> decide
theorem tm_n_inj {x y : Bool} (h : tm_n x = tm_n y) : x = y := by
  revert h
  cases x <;> cases y <;> decide
theorem tm_n_if (x : Bool) (c : Nat) : (if x = true then c else 0) = c * tm_n x := by
  cases x
  · rw [if_neg (by decide)]; exact (Nat.mul_zero c).symm
  · rw [if_pos rfl]; exact (Nat.mul_one c).symm
theorem tm_rev (A : Nat → Bool) : tm_sN tm_mk A 8 = 128 * tm_n (A 0) + 64 * tm_n (A 1) + 32 * tm_n (A 2) + 16 * tm_n (A 3) + 8 * tm_n (A 4) + 4 * tm_n (A 5) + 2 * tm_n (A 6) + tm_n (A 7) := by
  show 0 + (if A 0 = true then 128 else 0) + (if A 1 = true then 64 else 0) + (if A 2 = true then 32 else 0) + (if A 3 = true then 16 else 0) + (if A 4 = true then 8 else 0) + (if A 5 = true then 4 else 0) + (if A 6 = true then 2 else 0) + (if A 7 = true then 1 else 0) = _
  rw [tm_n_if, tm_n_if, tm_n_if, tm_n_if, tm_n_if, tm_n_if, tm_n_if, tm_n_if]
  omega
theorem tm_rev_le (A : Nat → Bool) : tm_sN tm_mk A 8 ≤ 255 := by
  rw [tm_rev]
  have h0 := tm_n_le (A 0)
  have h1 := tm_n_le (A 1)
  have h2 := tm_n_le (A 2)
  have h3 := tm_n_le (A 3)
  have h4 := tm_n_le (A 4)
  have h5 := tm_n_le (A 5)
  have h6 := tm_n_le (A 6)
  have h7 := tm_n_le (A 7)
  omega
theorem tm_lt8 {P : Nat → Prop} (h0 : P 0) (h1 : P 1) (h2 : P 2) (h3 : P 3) (h4 : P 4) (h5 : P 5) (h6 : P 6) (h7 : P 7) (j : Nat) (hj : j < 8) : P j := by
  have : j = 0 ∨ j = 1 ∨ j = 2 ∨ j = 3 ∨ j = 4 ∨ j = 5 ∨ j = 6 ∨ j = 7 := by omega
  rcases this with rfl | rfl | rfl | rfl | rfl | rfl | rfl | rfl <;> assumption
theorem tm_rev_inj {A B : Nat → Bool} (h : tm_sN tm_mk A 8 = tm_sN tm_mk B 8) (j : Nat) (hj : j < 8) : A j = B j := by
  rw [tm_rev, tm_rev] at h
  have a0 := tm_n_le (A 0)
  have a1 := tm_n_le (A 1)
  have a2 := tm_n_le (A 2)
  have a3 := tm_n_le (A 3)
  have a4 := tm_n_le (A 4)
  have a5 := tm_n_le (A 5)
  have a6 := tm_n_le (A 6)
  have a7 := tm_n_le (A 7)
  have b0 := tm_n_le (B 0)
  have b1 := tm_n_le (B 1)
  have b2 := tm_n_le (B 2)
  have b3 := tm_n_le (B 3)
  have b4 := tm_n_le (B 4)
  have b5 := tm_n_le (B 5)
  have b6 := tm_n_le (B 6)
  have b7 := tm_n_le (B 7)
  refine tm_lt8 (P := fun j => A j = B j) ?_ ?_ ?_ ?_ ?_ ?_ ?_ ?_ j hj <;> (apply tm_n_inj; omega)
theorem tm_rev_lt {A B : Nat → Bool} (j : Nat) (hj : j < 8) : (∀ i, i < j → A i = B i) → A j = true → B j = false → tm_sN tm_mk B 8 < tm_sN tm_mk A 8 := by
  rw [tm_rev, tm_rev]
  have a0 := tm_n_le (B 0)
  have a1 := tm_n_le (B 1)
  have a2 := tm_n_le (B 2)
  have a3 := tm_n_le (B 3)
  have a4 := tm_n_le (B 4)
  have a5 := tm_n_le (B 5)
  have a6 := tm_n_le (B 6)
  have a7 := tm_n_le (B 7)
  revert a0 a1 a2 a3 a4 a5 a6 a7
  refine tm_lt8 (P := fun j => tm_n (B 0) ≤ 1 → tm_n (B 1) ≤ 1 → tm_n (B 2) ≤ 1 → tm_n (B 3) ≤ 1 → tm_n (B 4) ≤ 1 → tm_n (B 5) ≤ 1 → tm_n (B 6) ≤ 1 → tm_n (B 7) ≤ 1 → (∀ i, i < j → A i = B i) → A j = true → B j = false → 128 * tm_n (B 0) + 64 * tm_n (B 1) + 32 * tm_n (B 2) + 16 * tm_n (B 3) + 8 * tm_n (B 4) + 4 * tm_n (B 5) + 2 * tm_n (B 6) + tm_n (B 7) < 128 * tm_n (A 0) + 64 * tm_n (A 1) + 32 * tm_n (A 2) + 16 * tm_n (A 3) + 8 * tm_n (A 4) + 4 * tm_n (A 5) + 2 * tm_n (A 6) + tm_n (A 7)) ?_ ?_ ?_ ?_ ?_ ?_ ?_ ?_ j hj
  · intro a0 a1 a2 a3 a4 a5 a6 a7 h x y
    rw [x, y, show tm_n true = 1 from rfl, show tm_n false = 0 from rfl]; omega
  · intro a0 a1 a2 a3 a4 a5 a6 a7 h x y
    rw [h 0 (by omega), x, y, show tm_n true = 1 from rfl, show tm_n false = 0 from rfl]; omega
  · intro a0 a1 a2 a3 a4 a5 a6 a7 h x y
    rw [h 0 (by omega), h 1 (by omega), x, y, show tm_n true = 1 from rfl, show tm_n false = 0 from rfl]; omega
  · intro a0 a1 a2 a3 a4 a5 a6 a7 h x y
    rw [h 0 (by omega), h 1 (by omega), h 2 (by omega), x, y, show tm_n true = 1 from rfl, show tm_n false = 0 from rfl]; omega
  · intro a0 a1 a2 a3 a4 a5 a6 a7 h x y
    rw [h 0 (by omega), h 1 (by omega), h 2 (by omega), h 3 (by omega), x, y, show tm_n true = 1 from rfl, show tm_n false = 0 from rfl]; omega
  · intro a0 a1 a2 a3 a4 a5 a6 a7 h x y
    rw [h 0 (by omega), h 1 (by omega), h 2 (by omega), h 3 (by omega), h 4 (by omega), x, y, show tm_n true = 1 from rfl, show tm_n false = 0 from rfl]; omega
  · intro a0 a1 a2 a3 a4 a5 a6 a7 h x y
    rw [h 0 (by omega), h 1 (by omega), h 2 (by omega), h 3 (by omega), h 4 (by omega), h 5 (by omega), x, y, show tm_n true = 1 from rfl, show tm_n false = 0 from rfl]; omega
  · intro a0 a1 a2 a3 a4 a5 a6 a7 h x y
    rw [h 0 (by omega), h 1 (by omega), h 2 (by omega), h 3 (by omega), h 4 (by omega), h 5 (by omega), h 6 (by omega), x, y, show tm_n true = 1 from rfl, show tm_n false = 0 from rfl]; omega
/-- marked sums of different sets are different -/
theorem tm_mw_inj {w : Nat → Nat} {A B : Nat → Bool} (h : tm_sN (tm_mw w) A 8 = tm_sN (tm_mw w) B 8) (j : Nat) (hj : j < 8) : A j = B j := by
  rw [tm_mw_sum, tm_mw_sum] at h
  have a := tm_rev_le A
  have b := tm_rev_le B
  exact tm_rev_inj (by omega) j hj
theorem tm_mw_div (w : Nat → Nat) (A : Nat → Bool) : tm_sN (tm_mw w) A 8 / 256 = tm_sN w A 8 := by
  rw [tm_mw_sum]
  have a := tm_rev_le A
  omega
end
section
/-! ===== X: has, markedWorth, prepare, improve ===== -/
def tm_c (a : Nat → Int32) : Nat → Nat := fun j => (a j).toNatClampNeg
def tm_t (a : Nat → Int32) : Nat → Int := fun j => (a j).toInt
section
variable {T P us ud kn ch : Int32} {st en wo ga wa re sp th lo : Nat → Int32}
theorem tm_has {post : Int32 → Prop} {j : Nat} (hj : j < 8) (h : post (if bt P j = true then 1 else 0)) : wpX_has post (T, P, us, ud, kn, ch, st, en, wo, ga, wa, re, sp) (nI j) := by
  refine br_f (nI_pos (by omega)) (br_f (nI_ge (b := 8) hj (by decide)) (br_c (fun z => ?_) (fun z => ?_)))
  · rw [tm_bit0 (by omega)] at z
    rw [z] at h
    exact h
  · rw [tm_bit0 (by omega)] at z
    rw [if_pos (by cases e : bt P j; exact absurd e z; rfl)] at h
    exact h
theorem tm_has_out {post : Int32 → Prop} {p0 : Int32} (hp : p0 < 0 ∨ nI 8 ≤ p0) (h : post 0) : wpX_has post (T, P, us, ud, kn, ch, st, en, wo, ga, wa, re, sp) p0 := by
  by_cases z : p0 < 0
  · exact br_t z h
  · exact br_f z (br_t (hp.resolve_left z) h)
theorem tm_shl {k : Nat} (hk : k < 31) : (1 : Int32) <<< (nI k &&& 31) = nI (2 ^ k) := by
  have h1 : 1 * 2 ^ k < 2 ^ 32 := by
    rw [Nat.one_mul]
    exact Nat.pow_lt_pow_right (by decide) (by omega)
  have := pk_shlN (n := 1) (nI k &&& 31) k (s_l k (by omega)) h1
  rw [Nat.one_mul] at this
  exact this
theorem tm_mwX {post : Int32 → Prop} {j : Nat} (hj : j < 8) (hw : wo j = nI (tm_c wo j)) (h : post (nI (tm_mw (tm_c wo) j))) : wpX_markedWorth post (T, P, us, ud, kn, ch, st, en, wo, ga, wa, re, sp) (nI j) := by
  refine ⟨vp_in_nI hj (by decide), ?_⟩
  rw [nI_clamp (show j < 2 ^ 31 by omega), hw, show (7 : Int32) = nI 7 from rfl, pk_sub (show j ≤ 7 by omega), tm_shl (by omega), show (256 : Int32) = nI 256 from rfl, pk_mul, nI_add]
  exact h
theorem tm_prep37 {post : SX → Prop} (K : ∀ wa', (∀ t, t < 16 → wa' t = 0) → post (T, P, us, ud, kn, ch, st, en, wo, ga, wa', re, sp)) : ∀ d t wa, t + d = 16 → (∀ i, i < t → wa i = 0) → wX_prepare_37 post T P us ud kn ch (d + 1) (nI t) st en wo ga wa re sp := by
  intro d
  induction d with
  | zero =>
    intro t wa ht hw
    have : t = 16 := by omega
    subst this
    exact br_t (nI_le (a := 16) (b := 16) (Nat.le_refl _) (by decide)) (K wa hw)
  | succ d ih =>
    intro t wa ht hw
    refine br_f (nI_ge (b := 16) (by omega) (by decide)) ⟨vp_in_nI (by omega) (by decide), nm_e (nm_r (nI_1 t) (ih (t + 1) _ (by omega) ?_))⟩
    intro i hi
    rw [nI_clamp (show t < 2 ^ 31 by omega)]
    by_cases z : i = t
    · subst z; rw [pk_us, vp_nar_byte]; decide
    · rw [pk_un z]; exact hw i (by omega)
theorem tm_prep12 {post : SX → Prop} (hw : ∀ j, j < 8 → wo j = nI (tm_c wo j)) (K : ∀ ga' wa', (∀ j, j < 8 → ga' j = nI (tm_mw (tm_c wo) j)) → (∀ t, t < 16 → wa' t = 0) → post (T, P, us, ud, kn, ch, st, en, wo, ga', wa', re, sp)) : ∀ d j ga, j + d = 8 → (∀ i, i < j → ga i = nI (tm_mw (tm_c wo) i)) → wX_prepare_12 post T P us ud kn ch (d + 1) (nI j) st en wo ga wa re sp := by
  intro d
  induction d with
  | zero =>
    intro j ga hj hg
    have : j = 8 := by omega
    subst this
    refine br_t (nI_le (a := 8) (b := 8) (Nat.le_refl _) (by decide)) ⟨17, ?_⟩
    exact tm_prep37 (fun wa' h => K ga wa' hg h) 16 0 wa rfl (fun i hi => absurd hi (Nat.not_lt_zero i))
  | succ d ih =>
    intro j ga hj hg
    refine br_f (nI_ge (b := 8) (by omega) (by decide)) (tm_mwX (by omega) (hw j (by omega)) ?_)
    refine ⟨vp_in_nI (by omega) (by decide), nm_e (nm_r (nI_1 j) (ih (j + 1) _ (by omega) ?_))⟩
    intro i hi
    rw [nI_clamp (show j < 2 ^ 31 by omega)]
    by_cases z : i = j
    · subst z; rw [pk_us]
    · rw [pk_un z]; exact hg i (by omega)
theorem tm_prep {post : SX → Prop} {J : Int32} (hw : ∀ j, j < 8 → wo j = nI (tm_c wo j)) (K : ∀ ga' wa', (∀ j, j < 8 → ga' j = nI (tm_mw (tm_c wo) j)) → (∀ t, t < 16 → wa' t = 0) → post (T, P, J, 0, kn, ch, st, en, wo, ga', wa', re, sp)) : wpX_prepare post (T, P, us, ud, kn, ch, st, en, wo, ga, wa, re, sp) J := by
  refine ⟨9, ?_⟩
  exact tm_prep12 (us := J) (ud := 0) hw K 8 0 ga rfl (fun i hi => absurd hi (Nat.not_lt_zero i))
end
/-! ===== the tables of the ways: what holds throughout ===== -/
def tm_Inv (s e : Nat → Nat) (g : Nat → Int) (U A : Nat → Bool) (w d : Nat → Int) (re sp : Nat → Int32) : Prop :=
  (∀ v, v ≤ 16 → -268435456 ≤ (re v).toInt ∧ (re v).toInt ≤ d v) ∧ (re 0).toInt = 0 ∧
  ∃ (Z : Nat → Nat) (N : Nat), (∀ v, v ≤ 16 → Z v < N) ∧ ∀ v, v ≤ 16 → v ≠ 0 → -268435456 < (re v).toInt → ∃ u c b, tm_Arc s e g U A w u v c b ∧ sp v = nI b ∧ (re v).toInt ≤ (re u).toInt + c ∧ ((re v).toInt = (re u).toInt + c → Z u < Z v)
/-- what is known of d -/
def tm_Dd (s e : Nat → Nat) (g : Nat → Int) (U A : Nat → Bool) (w d : Nat → Int) : Prop :=
  tm_Dat s e g U A ∧ tm_Dst (fun u v c => ∃ b, tm_Arc s e g U A w u v c b) d ∧ (∀ v, v ≤ 16 → d v ≤ 33554432) ∧ d 0 = 0
theorem tm_inv_up {s e : Nat → Nat} {g : Nat → Int} {U A : Nat → Bool} {w d : Nat → Int} {re sp : Nat → Int32} (D : tm_Dd s e g U A w d) (H : tm_Inv s e g U A w d re sp) {u v : Nat} {c : Int} {b : Nat} (a : tm_Arc s e g U A w u v c b) {x : Int32} (hx : x.toInt = (re u).toInt + c) (hl : (re v).toInt < x.toInt) : tm_Inv s e g U A w d (upd re v x) (upd sp v (nI b)) := by
  obtain ⟨D1, ⟨D2, _⟩, D3, D4⟩ := D
  obtain ⟨h1, h2, Z, N, h3, h4⟩ := H
  obtain ⟨u16, v16, uv, _⟩ := tm_Arc_in D1 a
  have f := D2 u v c ⟨b, a⟩
  have bu := h1 u u16
  have bv := h1 v v16
  have v0 : v ≠ 0 := by
    intro z
    subst z
    omega
  refine ⟨fun y hy => ?_, ?_, fun y => if y = v then N else Z y, N + 1, fun y hy => ?_, fun y hy y0 hf => ?_⟩
  · by_cases z : y = v
    · subst z; rw [pk_us]; omega
    · rw [pk_un z]; exact h1 y hy
  · rw [pk_un (fun z => v0 z.symm)]; exact h2
  · have := h3 y hy
    show (if y = v then N else Z y) < N + 1
    split <;> omega
  · by_cases z : y = v
    · subst z
      refine ⟨u, c, b, a, pk_us, ?_, fun _ => ?_⟩
      · rw [pk_us, pk_un uv]; omega
      · show (if u = y then N else Z u) < (if y = y then N else Z y)
        rw [if_neg uv, if_pos rfl]
        exact h3 u u16
    · rw [pk_un z] at hf
      obtain ⟨u1, c1, b1, k1, k2, k3, k4⟩ := h4 y hy y0 hf
      refine ⟨u1, c1, b1, k1, by rw [pk_un z]; exact k2, ?_, fun k5 => ?_⟩
      · rw [pk_un z]
        by_cases q : u1 = v
        · subst q; rw [pk_us]; omega
        · rw [pk_un q]; exact k3
      · rw [pk_un z] at k5
        show (if u1 = v then N else Z u1) < (if y = v then N else Z y)
        rw [if_neg z]
        by_cases q : u1 = v
        · subst q; rw [pk_us] at k5; omega
        · rw [pk_un q] at k5
          rw [if_neg q]
          exact k4 k5
theorem tm_by : ∀ b, b < 18 → vp_nar .byte (nI b).toInt8.toInt32 = nI b := by
  intro b hb
  rw [vp_nar_byte]
  exact (by decide +kernel : ∀ b, b < 18 → (nI b).toInt8.toInt32.toInt8.toInt32 = nI b) b hb
theorem tm_far : (-268435456 : Int32).toInt = -268435456 := by decide
theorem tm_add {x y : Int32} (h1 : -2147483648 ≤ x.toInt + y.toInt) (h2 : x.toInt + y.toInt < 2147483648) : (x + y).toInt = x.toInt + y.toInt := by
  rw [Int32.toInt_add]
  exact Int.bmod_eq_of_le (by omega) (by omega)
section
variable {T P us ud kn ch : Int32} {st en wo ga wa re sp th lo : Nat → Int32}
variable {s e : Nat → Nat} {g : Nat → Int} {U A : Nat → Bool} {w d : Nat → Int}
theorem tm_imp {post : SX → Prop} (D : tm_Dd s e g U A w d) (H : tm_Inv s e g U A w d re sp) {u v : Nat} {c : Int} {b : Nat} (a : tm_Arc s e g U A w u v c b) {c32 : Int32} (hc : c32.toInt = c)
    (K : ∀ re' sp', tm_Inv s e g U A w d re' sp' → (∀ x, x ≤ 16 → (re x).toInt ≤ (re' x).toInt) → (-268435456 < (re u).toInt → (re u).toInt + c ≤ (re' v).toInt) → post (T, P, us, ud, kn, ch, st, en, wo, ga, wa, re', sp')) :
    wpX_improve post (T, P, us, ud, kn, ch, st, en, wo, ga, wa, re, sp) (nI u) (nI v) c32 (nI b) := by
  obtain ⟨u16, v16, uv, c1, c2, hb⟩ := tm_Arc_in D.1 a
  have bu := H.1 u u16
  have bv := H.1 v v16
  have du := D.2.2.1 u u16
  have cu : (nI u).toNatClampNeg = u := nI_clamp (by omega)
  have cv : (nI v).toNatClampNeg = v := nI_clamp (by omega)
  have iu : vp_in (nI u) 17 := vp_in_nI (by omega) (by decide)
  have iv : vp_in (nI v) 17 := vp_in_nI (by omega) (by decide)
  unfold wpX_improve
  dsimp only
  rw [cu, cv, tm_by b hb]
  refine ⟨iu, br_c (fun h => K re sp H (fun _ _ => Int.le_refl _) (fun z => ?_)) (fun h => ⟨iu, iv, br_c (fun h2 => K re sp H (fun _ _ => Int.le_refl _) (fun _ => ?_)) (fun h2 => ⟨iu, iv, nm_e ⟨iv, nm_e ?_⟩⟩)⟩)⟩
  · rw [Int32.le_iff_toInt_le, tm_far] at h
    omega
  · have e := tm_add (x := re u) (y := c32) (by omega) (by omega)
    rw [Int32.le_iff_toInt_le, e] at h2
    omega
  · have e := tm_add (x := re u) (y := c32) (by omega) (by omega)
    rw [Int32.le_iff_toInt_le, e] at h2
    have hl : (re v).toInt < (re u + c32).toInt := by omega
    refine K _ _ (tm_inv_up D H a (by omega) hl) (fun x hx => ?_) (fun _ => ?_)
    · by_cases z : x = v
      · subst z; rw [pk_us]; omega
      · rw [pk_un z]; exact Int.le_refl _
    · rw [pk_us]; omega
end
end
section
/-! ===== X: findWays ===== -/
def tm_Ge (r0 re : Nat → Int32) : Prop := ∀ x, x ≤ 16 → (r0 x).toInt ≤ (re x).toInt
def tm_Dn (s e : Nat → Nat) (g : Nat → Int) (U A : Nat → Bool) (w : Nat → Int) (Q : Nat → Nat → Prop) (r0 re : Nat → Int32) : Prop :=
  ∀ u v c b, tm_Arc s e g U A w u v c b → Q v b → -268435456 < (r0 u).toInt → (r0 u).toInt + c ≤ (re v).toInt
theorem tm_round {s e : Nat → Nat} {g : Nat → Int} {U A : Nat → Bool} {w d : Nat → Int} {r0 re : Nat → Int32} (D : tm_Dd s e g U A w d) (B0 : ∀ v, v ≤ 16 → (r0 v).toInt ≤ d v) (B : ∀ v, v ≤ 16 → (re v).toInt ≤ d v) (G : tm_Ge r0 re) (P0 : ∀ x, x ≤ 16 → 0 ≤ (r0 x).toInt) (N : tm_Dn s e g U A w (fun _ _ => True) r0 re) {r : Nat} (hr : r ≤ 16) (hc : r ≤ tm_ct (fun v => decide ((r0 v).toInt = d v)) 17) : r + 1 ≤ tm_ct (fun v => decide ((re v).toInt = d v)) 17 := by
  have mono : ∀ v, v < 17 → decide ((r0 v).toInt = d v) = true → decide ((re v).toInt = d v) = true := by
    intro v hv h
    have h1 := of_decide_eq_true h
    have h2 := G v (by omega)
    have h3 := B v (by omega)
    exact decide_eq_true (by omega)
  by_cases z : ∃ v, v ≤ 16 ∧ ¬ (r0 v).toInt = d v
  · obtain ⟨u, v, c, ⟨b, a⟩, lu, nv, hd⟩ := D.2.1.2.2 (fun v => (r0 v).toInt = d v) (fun v hv hd => by
      have h1 := B0 v hv
      have h2 := P0 v hv
      show (r0 v).toInt = d v
      omega) z
    obtain ⟨u16, v16, _⟩ := tm_Arc_in D.1 a
    have h1 := P0 u u16
    have h2 := N u v c b a trivial (by omega)
    have h3 := B v v16
    have lu' : (r0 u).toInt = d u := lu
    have := tm_ct_lt (f := fun v => decide ((r0 v).toInt = d v)) (g := fun v => decide ((re v).toInt = d v)) v 17 mono (by omega) (decide_eq_false nv) (decide_eq_true (by omega))
    omega
  · have all : ∀ v, v < 17 → true = true → decide ((re v).toInt = d v) = true := by
      intro v hv _
      refine mono v hv (decide_eq_true ?_)
      exact Classical.byContradiction (fun q => z ⟨v, by omega, q⟩)
    have := tm_ct_mono (f := fun _ => true) 17 all
    have h17 : tm_ct (fun _ => true) 17 = 17 := by decide
    omega
theorem tm_neg {x : Int32} (h0 : 0 ≤ x.toInt) : (-x).toInt = -x.toInt := by
  have := x.toInt_lt
  rw [Int32.toInt_neg]
  exact Int.bmod_eq_of_le (by omega) (by omega)
section
variable {T P us ud kn ch : Int32} {st en wo ga wa re sp th lo : Nat → Int32}
variable {d : Nat → Int}
theorem tm_ibj {post : SX → Prop} {j : Nat} (hj : j < 8) (se : ∀ j, j < 8 → st j = nI (tm_c st j) ∧ en j = nI (tm_c en j)) (D : tm_Dd (tm_c st) (tm_c en) (tm_t ga) (bt us) (bt ud) (tm_t wa) d) (H : tm_Inv (tm_c st) (tm_c en) (tm_t ga) (bt us) (bt ud) (tm_t wa) d re sp)
    (K : ∀ re' sp', tm_Inv (tm_c st) (tm_c en) (tm_t ga) (bt us) (bt ud) (tm_t wa) d re' sp' → tm_Ge re re' → tm_Dn (tm_c st) (tm_c en) (tm_t ga) (bt us) (bt ud) (tm_t wa) (fun _ b => b = j ∨ b = 8 + j) re re' → post (T, P, us, ud, kn, ch, st, en, wo, ga, wa, re', sp')) : wpX_improveByJob post (T, P, us, ud, kn, ch, st, en, wo, ga, wa, re, sp) (nI j) := by
  have ij : vp_in (nI j) 8 := vp_in_nI hj (by decide)
  obtain ⟨s1, e1⟩ := se j hj
  obtain ⟨d1, d2, d3, d4, d5, d6⟩ := D.1 j hj
  unfold wpX_improveByJob
  dsimp only
  rw [nI_clamp (show j < 2 ^ 31 by omega)]
  cases hu : bt ud j
  · refine br_t ((tm_bit0 (by omega)).mpr hu) ?_
    cases hs : bt us j
    · refine br_t ((tm_bit0 (by omega)).mpr hs) (K re sp H (fun _ _ => Int.le_refl _) ?_)
      intro u v c b a hb
      rcases a with ⟨rfl, _⟩ | ⟨rfl, _⟩ | ⟨hb8, hU, _⟩ | ⟨i, hi, rfl, hA, _⟩
      · omega
      · omega
      · have : b = j := by omega
        subst this
        rw [hs] at hU; cases hU
      · have : i = j := by omega
        subst this
        rw [hu] at hA; cases hA
    · refine br_f (fun z => by rw [(tm_bit0 (by omega)).mp z] at hs; cases hs) ⟨ij, ij, ij, ?_⟩
      rw [s1, e1]
      refine tm_imp (c := tm_t ga j) D H (Or.inr (Or.inr (Or.inl ⟨hj, hs, hu, rfl, rfl, rfl⟩))) rfl ?_
      intro re' sp' h1 h2 h3
      refine K re' sp' h1 h2 ?_
      intro u v c b a hb
      rcases a with ⟨rfl, _⟩ | ⟨rfl, _⟩ | ⟨hb8, hU, _, rfl, rfl, rfl⟩ | ⟨i, hi, rfl, hA, _⟩
      · omega
      · omega
      · have : b = j := by omega
        subst this
        exact h3
      · have : i = j := by omega
        subst this
        rw [hu] at hA; cases hA
  · refine br_f (fun z => by rw [(tm_bit0 (by omega)).mp z] at hu; cases hu) ⟨ij, ij, ij, ?_⟩
    rw [s1, e1, show (8 : Int32) = nI 8 from rfl, nI_add]
    refine tm_imp (c := -(tm_t ga j)) D H (Or.inr (Or.inr (Or.inr ⟨j, hj, rfl, hu, rfl, rfl, rfl⟩))) (tm_neg d4) ?_
    intro re' sp' h1 h2 h3
    refine K re' sp' h1 h2 ?_
    intro u v c b a hb
    rcases a with ⟨rfl, _⟩ | ⟨rfl, _⟩ | ⟨hb8, hU, hA, _⟩ | ⟨i, hi, rfl, hA, rfl, rfl, rfl⟩
    · omega
    · omega
    · have : b = j := by omega
      subst this
      rw [hu] at hA; cases hA
    · have : i = j := by omega
      subst this
      exact h3
variable {r0 : Nat → Int32} {x1 : Int32}
theorem tm_fw91 {post : SX → Prop} {J38 : Int32 → Int32 → Int32 → Int32 → Int32 → Int32 → Int32 → (Nat → Int32) → (Nat → Int32) → (Nat → Int32) → (Nat → Int32) → (Nat → Int32) → (Nat → Int32) → (Nat → Int32) → Prop} (se : ∀ j, j < 8 → st j = nI (tm_c st j) ∧ en j = nI (tm_c en j)) (D : tm_Dd (tm_c st) (tm_c en) (tm_t ga) (bt us) (bt ud) (tm_t wa) d)
    (K : ∀ re' sp', tm_Inv (tm_c st) (tm_c en) (tm_t ga) (bt us) (bt ud) (tm_t wa) d re' sp' → tm_Ge r0 re' → (∀ x, x ≤ 16 → 0 ≤ (re' x).toInt) → tm_Dn (tm_c st) (tm_c en) (tm_t ga) (bt us) (bt ud) (tm_t wa) (fun _ _ => True) r0 re' → J38 (x1 + 1) T P us ud kn ch st en wo ga wa re' sp') :
    ∀ dd j re sp, j + dd = 8 → tm_Inv (tm_c st) (tm_c en) (tm_t ga) (bt us) (bt ud) (tm_t wa) d re sp → tm_Ge r0 re → (∀ x, x ≤ 16 → 0 ≤ (re x).toInt) → tm_Dn (tm_c st) (tm_c en) (tm_t ga) (bt us) (bt ud) (tm_t wa) (fun _ b => 16 ≤ b ∨ b % 8 < j) r0 re → wX_findWays_91 post J38 x1 (dd + 1) (nI j) T P us ud kn ch st en wo ga wa re sp := by
  intro dd
  induction dd with
  | zero =>
    intro j re sp hj H G P0 N
    have : j = 8 := by omega
    subst this
    refine br_t (nI_le (a := 8) (b := 8) (Nat.le_refl _) (by decide)) (nm_e (K re sp H G P0 ?_))
    intro u v c b a _
    exact N u v c b a (Or.inr (by omega))
  | succ dd ih =>
    intro j re sp hj H G P0 N
    refine br_f (nI_ge (b := 8) (by omega) (by decide)) (tm_ibj (by omega) se D H ?_)
    intro re' sp' h1 h2 h3
    refine nm_r (nI_1 j) (ih (j + 1) re' sp' (by omega) h1 (fun x hx => Int.le_trans (G x hx) (h2 x hx)) (fun x hx => Int.le_trans (P0 x hx) (h2 x hx)) ?_)
    intro u v c b a hb hf
    obtain ⟨u16, v16, _, _, _, b18⟩ := tm_Arc_in D.1 a
    by_cases z : 16 ≤ b ∨ b % 8 < j
    · have q1 := N u v c b a z hf
      have q2 := h2 v v16
      omega
    · have hb' : 16 ≤ b ∨ b % 8 < j + 1 := hb
      have q0 := G u u16
      have q1 := h3 u v c b a (by omega) (by omega)
      omega
theorem tm_fw46 {post : SX → Prop} {J38 : Int32 → Int32 → Int32 → Int32 → Int32 → Int32 → Int32 → (Nat → Int32) → (Nat → Int32) → (Nat → Int32) → (Nat → Int32) → (Nat → Int32) → (Nat → Int32) → (Nat → Int32) → Prop} (se : ∀ j, j < 8 → st j = nI (tm_c st j) ∧ en j = nI (tm_c en j)) (D : tm_Dd (tm_c st) (tm_c en) (tm_t ga) (bt us) (bt ud) (tm_t wa) d)
    (K : ∀ re' sp', tm_Inv (tm_c st) (tm_c en) (tm_t ga) (bt us) (bt ud) (tm_t wa) d re' sp' → tm_Ge r0 re' → (∀ x, x ≤ 16 → 0 ≤ (re' x).toInt) → tm_Dn (tm_c st) (tm_c en) (tm_t ga) (bt us) (bt ud) (tm_t wa) (fun _ _ => True) r0 re' → J38 (x1 + 1) T P us ud kn ch st en wo ga wa re' sp') :
    ∀ dd t re sp, t + dd = 16 → tm_Inv (tm_c st) (tm_c en) (tm_t ga) (bt us) (bt ud) (tm_t wa) d re sp → tm_Ge r0 re → (∀ x, x ≤ t → 0 ≤ (re x).toInt) → tm_Dn (tm_c st) (tm_c en) (tm_t ga) (bt us) (bt ud) (tm_t wa) (fun v b => (b = 16 ∧ v ≤ t) ∨ (b = 17 ∧ v < t)) r0 re → wX_findWays_46 post J38 x1 (dd + 1) (nI t) T P us ud kn ch st en wo ga wa re sp := by
  intro dd
  induction dd with
  | zero =>
    intro t re sp ht H G P0 N
    have : t = 16 := by omega
    subst this
    refine br_t (nI_le (a := 16) (b := 16) (Nat.le_refl _) (by decide)) ⟨9, ?_⟩
    refine tm_fw91 se D K 8 0 re sp rfl H G P0 ?_
    intro u v c b a hb
    obtain ⟨u16, v16, _, _, _, b18⟩ := tm_Arc_in D.1 a
    have hb' : 16 ≤ b ∨ b % 8 < 0 := hb
    refine N u v c b a ?_
    rcases a with ⟨rfl, _⟩ | ⟨rfl, hv, _⟩ | ⟨hb8, _⟩ | ⟨i, hi, rfl, _⟩
    · exact Or.inl ⟨rfl, v16⟩
    · exact Or.inr ⟨rfl, hv⟩
    · omega
    · omega
  | succ dd ih =>
    intro t re sp ht H G P0 N
    refine br_f (nI_ge (b := 16) (by omega) (by decide)) ?_
    rw [nI_1 t]
    refine tm_imp (u := t) (v := t + 1) (c := 0) (b := 16) D H (Or.inl ⟨rfl, by omega, rfl, rfl⟩) (by decide) ?_
    intro re' sp' h1 h2 h3
    dsimp only
    rw [nI_clamp (show t < 2 ^ 31 by omega)]
    have g0 := P0 t (Nat.le_refl t)
    have g1 := h3 (by omega)
    have G1 : tm_Ge r0 re' := fun x hx => Int.le_trans (G x hx) (h2 x hx)
    have Q1 : ∀ x, x ≤ t + 1 → 0 ≤ (re' x).toInt := by
      intro x hx
      by_cases z : x = t + 1
      · subst z; omega
      · exact Int.le_trans (P0 x (by omega)) (h2 x (by omega))
    have N1 : tm_Dn (tm_c st) (tm_c en) (tm_t ga) (bt us) (bt ud) (tm_t wa) (fun v b => (b = 16 ∧ v ≤ t + 1) ∨ (b = 17 ∧ v < t)) r0 re' := by
      intro u v c b a hb hf
      obtain ⟨u16, v16, _, _, _, b18⟩ := tm_Arc_in D.1 a
      by_cases z : (b = 16 ∧ v ≤ t) ∨ (b = 17 ∧ v < t)
      · have q1 := N u v c b a z hf
        have q2 := h2 v v16
        omega
      · have hb' : (b = 16 ∧ v ≤ t + 1) ∨ (b = 17 ∧ v < t) := hb
        have e1 : b = 16 ∧ v = t + 1 := by omega
        obtain ⟨rfl, rfl⟩ := e1
        rcases a with ⟨_, _, q, rfl⟩ | ⟨q, _⟩ | ⟨q, _⟩ | ⟨i, hi, q, _⟩
        · have : u = t := by omega
          subst this
          have := G u u16
          omega
        · omega
        · omega
        · omega
    refine ⟨vp_in_nI (by omega) (by decide), br_c (fun z => ?_) (fun z => ?_)⟩
    · refine nm_e (ih (t + 1) re' sp' (by omega) h1 G1 Q1 ?_)
      intro u v c b a hb hf
      have hb' : (b = 16 ∧ v ≤ t + 1) ∨ (b = 17 ∧ v < t + 1) := hb
      by_cases y : (b = 16 ∧ v ≤ t + 1) ∨ (b = 17 ∧ v < t)
      · exact N1 u v c b a y hf
      · have e1 : b = 17 ∧ v = t := by omega
        obtain ⟨rfl, rfl⟩ := e1
        rw [Int32.le_iff_toInt_le, show (0 : Int32).toInt = 0 from by decide] at z
        rcases a with ⟨q, _⟩ | ⟨_, _, _, _, q⟩ | ⟨q, _⟩ | ⟨i, hi, q, _⟩
        · omega
        · have q' : 0 < (wa v).toInt := q
          omega
        · omega
        · omega
    · have zw : 0 < tm_t wa t := by
        rw [Int32.le_iff_toInt_le, show (0 : Int32).toInt = 0 from by decide] at z
        show 0 < (wa t).toInt
        omega
      refine tm_imp (u := t + 1) (v := t) (c := 0) (b := 17) D h1 (Or.inr (Or.inl ⟨rfl, by omega, rfl, rfl, zw⟩)) (by decide) ?_
      intro re2 sp2 k1 k2 k3
      refine nm_e (ih (t + 1) re2 sp2 (by omega) k1 (fun x hx => Int.le_trans (G1 x hx) (k2 x hx)) (fun x hx => Int.le_trans (Q1 x hx) (k2 x (by omega))) ?_)
      intro u v c b a hb hf
      obtain ⟨u16, v16, _, _, _, b18⟩ := tm_Arc_in D.1 a
      have hb' : (b = 16 ∧ v ≤ t + 1) ∨ (b = 17 ∧ v < t + 1) := hb
      by_cases y : (b = 16 ∧ v ≤ t + 1) ∨ (b = 17 ∧ v < t)
      · have q1 := N1 u v c b a y hf
        have q2 := k2 v v16
        omega
      · have e1 : b = 17 ∧ v = t := by omega
        obtain ⟨rfl, rfl⟩ := e1
        rcases a with ⟨q, _⟩ | ⟨_, _, rfl, rfl, q⟩ | ⟨q, _⟩ | ⟨i, hi, q, _⟩
        · omega
        · have q1 := G1 (v + 1) u16
          have q2 := Q1 (v + 1) (Nat.le_refl _)
          have q3 := k3 (by omega)
          omega
        · omega
        · omega
theorem tm_fw38 {post : SX → Prop} (se : ∀ j, j < 8 → st j = nI (tm_c st j) ∧ en j = nI (tm_c en j)) (D : tm_Dd (tm_c st) (tm_c en) (tm_t ga) (bt us) (bt ud) (tm_t wa) d)
    (K : ∀ re' sp', tm_Inv (tm_c st) (tm_c en) (tm_t ga) (bt us) (bt ud) (tm_t wa) d re' sp' → (∀ v, v ≤ 16 → (re' v).toInt = d v) → post (T, P, us, ud, kn, ch, st, en, wo, ga, wa, re', sp')) :
    ∀ dd r re sp, r + dd = 17 → tm_Inv (tm_c st) (tm_c en) (tm_t ga) (bt us) (bt ud) (tm_t wa) d re sp → (r = 0 ∨ ((∀ x, x ≤ 16 → 0 ≤ (re x).toInt) ∧ r ≤ tm_ct (fun v => decide ((re v).toInt = d v)) 17)) → wX_findWays_38 post (dd + 1) (nI r) T P us ud kn ch st en wo ga wa re sp := by
  intro dd
  induction dd with
  | zero =>
    intro r re sp hr H C
    have : r = 17 := by omega
    subst this
    refine br_t (nI_lt (a := 16) (b := 17) (by decide) (by decide)) (K re sp H (fun v hv => ?_))
    rcases C with C | ⟨_, C⟩
    · omega
    · exact of_decide_eq_true (tm_ct_all 17 C v (by omega))
  | succ dd ih =>
    intro r re sp hr H C
    refine br_f (nI_nlt (a := 16) (b := r) (by omega) (by decide)) ⟨17, ?_⟩
    refine tm_fw46 (r0 := re) se D ?_ 16 0 re sp rfl H (fun _ _ => Int.le_refl _) (fun x hx => ?_) ?_
    · intro re' sp' h1 h2 h3 h4
      rw [nI_1 r]
      refine ih (r + 1) re' sp' (by omega) h1 (Or.inr ⟨h3, ?_⟩)
      rcases C with rfl | ⟨C1, C2⟩
      · have d0 := D.2.2.2
        have r1 := h1.2.1
        exact tm_ct_pos 0 17 (by decide) (decide_eq_true (by omega))
      · exact tm_round D (fun v hv => (H.1 v hv).2) (fun v hv => (h1.1 v hv).2) h2 C1 h4 (by omega) C2
    · have : x = 0 := by omega
      subst this
      rw [H.2.1]
      exact Int.le_refl _
    · intro u v c b a hb
      have hb' : (b = 16 ∧ v ≤ 0) ∨ (b = 17 ∧ v < 0) := hb
      rcases a with ⟨rfl, _, q, _⟩ | ⟨rfl, _⟩ | ⟨q, _⟩ | ⟨i, hi, q, _⟩
      · omega
      · omega
      · omega
      · omega
theorem tm_fw2 {post : SX → Prop} (K : ∀ re' sp', (∀ t, t ≤ 16 → re' t = -268435456) → ∃ n, wX_findWays_38 post n (nI 0) T P us ud kn ch st en wo ga wa (upd re' 0 0) sp') :
    ∀ dd t re sp, t + dd = 17 → (∀ i, i < t → re i = -268435456) → wX_findWays_2 post T P us ud kn ch (dd + 1) (nI t) st en wo ga wa re sp := by
  intro dd
  induction dd with
  | zero =>
    intro t re sp ht h
    have : t = 17 := by omega
    subst this
    exact br_t (nI_lt (a := 16) (b := 17) (by decide) (by decide)) (nm_e (K re sp (fun t ht => h t (by omega))))
  | succ dd ih =>
    intro t re sp ht h
    have it : vp_in (nI t) 17 := vp_in_nI (by omega) (by decide)
    refine br_f (nI_nlt (a := 16) (b := t) (by omega) (by decide)) ⟨it, nm_e ⟨it, nm_e (nm_r (nI_1 t) (ih (t + 1) _ _ (by omega) ?_))⟩⟩
    intro i hi
    rw [nI_clamp (show t < 2 ^ 31 by omega)]
    by_cases z : i = t
    · subst z; rw [pk_us]
    · rw [pk_un z]; exact h i (by omega)
theorem tm_fw {post : SX → Prop} (se : ∀ j, j < 8 → st j = nI (tm_c st j) ∧ en j = nI (tm_c en j)) (D : tm_Dd (tm_c st) (tm_c en) (tm_t ga) (bt us) (bt ud) (tm_t wa) d)
    (K : ∀ re' sp', tm_Inv (tm_c st) (tm_c en) (tm_t ga) (bt us) (bt ud) (tm_t wa) d re' sp' → (∀ v, v ≤ 16 → (re' v).toInt = d v) → post (T, P, us, ud, kn, ch, st, en, wo, ga, wa, re', sp')) : wpX_findWays post (T, P, us, ud, kn, ch, st, en, wo, ga, wa, re, sp) := by
  refine ⟨18, ?_⟩
  refine tm_fw2 ?_ 17 0 re sp rfl (fun i hi => absurd hi (Nat.not_lt_zero i))
  intro re' sp' hr
  refine ⟨18, tm_fw38 se D K 17 0 _ _ rfl ?_ (Or.inl rfl)⟩
  refine ⟨fun v hv => ?_, by rw [pk_us]; decide, fun _ => 0, 1, fun _ _ => Nat.zero_lt_one, fun v hv v0 hf => ?_⟩
  · by_cases z : v = 0
    · subst z
      have d0 := D.2.2.2
      rw [pk_us, d0]
      decide
    · have := D.2.1.2.1 v hv
      rw [pk_un z, hr v hv, tm_far]
      omega
  · rw [pk_un v0, hr v hv, tm_far] at hf
    omega
end
/-- at the end the steps lead down -/
theorem tm_way {s e : Nat → Nat} {g : Nat → Int} {U A : Nat → Bool} {w d : Nat → Int} {re sp : Nat → Int32} (D : tm_Dd s e g U A w d) (H : tm_Inv s e g U A w d re sp) (E : ∀ v, v ≤ 16 → (re v).toInt = d v) : ∃ r : Nat → Nat, (∀ v, v ≤ 16 → r v ≤ 16) ∧ ∀ v, v ≤ 16 → v ≠ 0 → ∃ u c b, tm_Arc s e g U A w u v c b ∧ sp v = nI b ∧ d v = d u + c ∧ r u < r v := by
  obtain ⟨h1, h2, Z, N, h3, h4⟩ := H
  obtain ⟨r, r1, r2⟩ := tm_rank Z
  refine ⟨r, fun v hv => r1 v (by omega), fun v hv v0 => ?_⟩
  have dv := D.2.1.2.1 v hv
  have ev := E v hv
  obtain ⟨u, c, b, a, k1, k2, k3⟩ := h4 v hv v0 (by omega)
  obtain ⟨u16, _⟩ := tm_Arc_in D.1 a
  have eu := E u u16
  have f := D.2.1.1 u v c ⟨b, a⟩
  exact ⟨u, c, b, a, k1, by omega, r2 u v (by omega) (k3 (by omega))⟩
end
section
/-! ===== X: follow, send ===== -/
theorem tm_cr_add {s e : Nat → Nat} {A A' : Nat → Bool} {j : Nat} (hj : j < 8) (h : ∀ i, i < 8 → i ≠ j → A' i = A i) (h0 : A j = false) (h1 : A' j = true) (t : Nat) : tm_cr s e A' t = tm_cr s e A t + tm_i (s j) (e j) t := by
  unfold tm_cr
  rw [tm_S_up (g := fun j => tm_b (A' j) * tm_i (s j) (e j) t) (f := fun j => tm_b (A j) * tm_i (s j) (e j) t) j 8 hj (fun i hi z => by
    show tm_b (A' i) * _ = tm_b (A i) * _
    rw [h i hi z])]
  show _ + (tm_b (A' j) * tm_i (s j) (e j) t - tm_b (A j) * tm_i (s j) (e j) t) = _
  rw [h0, h1, tm_b0, tm_b1]
  omega
theorem tm_cr_0 (s e : Nat → Nat) (A : Nat → Bool) (t : Nat) : 0 ≤ tm_cr s e A t := by
  rw [tm_crN]
  omega
def tm_Da (s e : Nat → Nat) (g : Nat → Int) (U : Nat → Bool) : Prop :=
  ∀ j, j < 8 → (U j = true → s j < e j) ∧ s j ≤ 16 ∧ e j ≤ 16 ∧ 0 ≤ g j ∧ g j ≤ 2097152
theorem tm_Da_t {s e : Nat → Nat} {g : Nat → Int} {U A : Nat → Bool} (h : tm_Da s e g U) (hs : tm_Sub A U) : tm_Dat s e g U A := by
  intro j hj
  obtain ⟨a, b, c, d, e⟩ := h j hj
  exact ⟨a, b, c, d, e, hs j hj⟩
/-- midway on the way back, at node x -/
def tm_Fo (s e : Nat → Nat) (g : Nat → Int) (U : Nat → Bool) (k : Nat) (d : Nat → Int) (r : Nat → Nat) (sp : Nat → Int32) (x : Nat) (A : Nat → Bool) (w : Nat → Int) : Prop :=
  tm_Sub A U ∧ (∀ t, t < 16 → 0 ≤ w t ∧ w t + tm_cr s e A t = (k : Int) + (if x ≤ t then 1 else 0)) ∧ tm_Pot s e g U A w d ∧ ∀ v, v ≤ 16 → v ≠ 0 → r v ≤ r x → ∃ u c b, tm_Arc s e g U A w u v c b ∧ sp v = nI b ∧ d v = d u + c ∧ r u < r v
section
variable {s e : Nat → Nat} {g : Nat → Int} {U A A' : Nat → Bool} {w w' d : Nat → Int} {k x u : Nat} {r : Nat → Nat} {sp : Nat → Int32}
theorem tm_Fo_s (H : tm_Fo s e g U k d r sp x A w) (hr : r u < r x) (h1 : tm_Sub A' U) (h2 : ∀ t, t < 16 → 0 ≤ w' t ∧ w' t + tm_cr s e A' t = (k : Int) + (if u ≤ t then 1 else 0)) (h3 : tm_Pot s e g U A' w' d) (h4 : ∀ v u1 c1 b1, v ≠ x → tm_Arc s e g U A w u1 v c1 b1 → tm_Arc s e g U A' w' u1 v c1 b1) : tm_Fo s e g U k d r sp u A' w' := by
  refine ⟨h1, h2, h3, fun v hv v0 hl => ?_⟩
  obtain ⟨u1, c1, b1, a, q⟩ := H.2.2.2 v hv v0 (by omega)
  exact ⟨u1, c1, b1, h4 v u1 c1 b1 (fun z => by subst z; omega) a, q⟩
theorem tm_Fo16 (H : tm_Fo s e g U k d r sp (u + 1) A w) (hr : r u < r (u + 1)) (hu : u < 16) (hd : d (u + 1) = d u + 0) (hw : ∀ t, t < 16 → w' t = w t + (if t = u then 1 else 0)) : tm_Fo s e g U k d r sp u A w' := by
  obtain ⟨H1, H2, ⟨p1, p2, p3, p4⟩, H4⟩ := H
  refine tm_Fo_s ⟨H1, H2, ⟨p1, p2, p3, p4⟩, H4⟩ hr H1 (fun t ht => ?_) ⟨p1, fun t ht z => ?_, p3, p4⟩ (fun v u1 c1 b1 _ a => ?_)
  · have a := H2 t ht
    rw [hw t ht]
    by_cases q1 : t = u
    · subst q1
      rw [if_neg (by omega)] at a
      rw [if_pos rfl, if_pos (Nat.le_refl t)]
      omega
    · rw [if_neg q1]
      by_cases q2 : u + 1 ≤ t
      · rw [if_pos q2] at a
        rw [if_pos (by omega)]
        omega
      · rw [if_neg q2] at a
        rw [if_neg (by omega)]
        omega
  · rw [hw t ht] at z
    by_cases q1 : t = u
    · subst q1; omega
    · rw [if_neg q1] at z
      exact p2 t ht (by omega)
  · rcases a with a | ⟨a1, a2, a3, a4, a5⟩ | a | a
    · exact Or.inl a
    · refine Or.inr (Or.inl ⟨a1, a2, a3, a4, ?_⟩)
      rw [hw v a2]
      split <;> omega
    · exact Or.inr (Or.inr (Or.inl a))
    · exact Or.inr (Or.inr (Or.inr a))
theorem tm_Fo17 (H : tm_Fo s e g U k d r sp x A w) (hr : r (x + 1) < r x) (hx : x < 16) (h0 : 0 < w x) (hw : ∀ t, t < 16 → w' t = w t - (if t = x then 1 else 0)) : tm_Fo s e g U k d r sp (x + 1) A w' := by
  obtain ⟨H1, H2, ⟨p1, p2, p3, p4⟩, H4⟩ := H
  refine tm_Fo_s ⟨H1, H2, ⟨p1, p2, p3, p4⟩, H4⟩ hr H1 (fun t ht => ?_) ⟨p1, fun t ht z => ?_, p3, p4⟩ (fun v u1 c1 b1 nv a => ?_)
  · have a := H2 t ht
    rw [hw t ht]
    by_cases q1 : t = x
    · subst q1
      rw [if_pos (Nat.le_refl t)] at a
      rw [if_pos rfl, if_neg (by omega)]
      omega
    · rw [if_neg q1]
      by_cases q2 : x ≤ t
      · rw [if_pos q2] at a
        rw [if_pos (by omega)]
        omega
      · rw [if_neg q2] at a
        rw [if_neg (by omega)]
        omega
  · rw [hw t ht] at z
    refine p2 t ht ?_
    revert z
    split <;> omega
  · rcases a with a | ⟨a1, a2, a3, a4, a5⟩ | a | a
    · exact Or.inl a
    · refine Or.inr (Or.inl ⟨a1, a2, a3, a4, ?_⟩)
      rw [hw v a2, if_neg nv]
      omega
    · exact Or.inr (Or.inr (Or.inl a))
    · exact Or.inr (Or.inr (Or.inr a))
theorem tm_FoJ {j : Nat} (hj : j < 8) (Dd : tm_Da s e g U) (H : tm_Fo s e g U k d r sp (e j) A w) (hr : r (s j) < r (e j)) (hU : U j = true) (hA : A j = false) (hd : d (e j) = d (s j) + g j) (h : ∀ i, i < 8 → i ≠ j → A' i = A i) (h1 : A' j = true) : tm_Fo s e g U k d r sp (s j) A' w := by
  obtain ⟨H1, H2, ⟨p1, p2, p3, p4⟩, H4⟩ := H
  obtain ⟨se, s16, e16, g0, g1⟩ := Dd j hj
  have hse := se hU
  refine tm_Fo_s ⟨H1, H2, ⟨p1, p2, p3, p4⟩, H4⟩ hr (fun i hi z => ?_) (fun t ht => ?_) ⟨p1, p2, fun i hi zU zA => ?_, fun i hi zA => ?_⟩ (fun v u1 c1 b1 nv a => ?_)
  · by_cases q : i = j
    · subst q; exact hU
    · rw [h i hi q] at z; exact H1 i hi z
  · have a := H2 t ht
    rw [tm_cr_add hj h hA h1 t]
    unfold tm_i
    by_cases q1 : s j ≤ t
    · rw [if_pos q1]
      by_cases q2 : e j ≤ t
      · rw [if_pos q2] at a
        rw [if_neg (by omega)]
        omega
      · rw [if_neg q2] at a
        rw [if_pos (by omega)]
        omega
    · rw [if_neg (show ¬ e j ≤ t by omega)] at a
      rw [if_neg q1, if_neg (by omega)]
      omega
  · by_cases q : i = j
    · subst q; rw [h1] at zA; cases zA
    · rw [h i hi q] at zA; exact p3 i hi zU zA
  · by_cases q : i = j
    · subst q; omega
    · rw [h i hi q] at zA; exact p4 i hi zA
  · rcases a with a | a | ⟨a1, a2, a3, a4, a5, a6⟩ | ⟨i, a1, a2, a3, a4, a5, a6⟩
    · exact Or.inl a
    · exact Or.inr (Or.inl a)
    · refine Or.inr (Or.inr (Or.inl ⟨a1, a2, ?_, a4, a5, a6⟩))
      rw [h b1 a1 (fun z => by subst z; exact nv a5)]
      exact a3
    · refine Or.inr (Or.inr (Or.inr ⟨i, a1, a2, ?_, a4, a5, a6⟩))
      rw [h i a1 (fun z => by subst z; rw [hA] at a3; cases a3)]
      exact a3
theorem tm_FoB {j : Nat} (hj : j < 8) (Dd : tm_Da s e g U) (H : tm_Fo s e g U k d r sp (s j) A w) (hr : r (e j) < r (s j)) (hA : A j = true) (hd : d (s j) = d (e j) + -(g j)) (h : ∀ i, i < 8 → i ≠ j → A' i = A i) (h1 : A' j = false) : tm_Fo s e g U k d r sp (e j) A' w := by
  obtain ⟨H1, H2, ⟨p1, p2, p3, p4⟩, H4⟩ := H
  obtain ⟨se, s16, e16, g0, g1⟩ := Dd j hj
  have hse := se (H1 j hj hA)
  refine tm_Fo_s ⟨H1, H2, ⟨p1, p2, p3, p4⟩, H4⟩ hr (fun i hi z => ?_) (fun t ht => ?_) ⟨p1, p2, fun i hi zU zA => ?_, fun i hi zA => ?_⟩ (fun v u1 c1 b1 nv a => ?_)
  · by_cases q : i = j
    · subst q; exact H1 i hi hA
    · rw [h i hi q] at z; exact H1 i hi z
  · have a := H2 t ht
    rw [tm_cr_add hj (fun i hi q => (h i hi q).symm) h1 hA t] at a
    unfold tm_i at a
    by_cases q1 : s j ≤ t
    · rw [if_pos q1] at a
      by_cases q2 : e j ≤ t
      · rw [if_pos q2]
        rw [if_neg (by omega)] at a
        omega
      · rw [if_neg q2]
        rw [if_pos (by omega)] at a
        omega
    · rw [if_neg (show ¬ e j ≤ t by omega)]
      rw [if_neg q1, if_neg (by omega)] at a
      omega
  · by_cases q : i = j
    · subst q; omega
    · rw [h i hi q] at zA; exact p3 i hi zU zA
  · by_cases q : i = j
    · subst q; rw [h1] at zA; cases zA
    · rw [h i hi q] at zA; exact p4 i hi zA
  · rcases a with a | a | ⟨a1, a2, a3, a4, a5, a6⟩ | ⟨i, a1, a2, a3, a4, a5, a6⟩
    · exact Or.inl a
    · exact Or.inr (Or.inl a)
    · refine Or.inr (Or.inr (Or.inl ⟨a1, a2, ?_, a4, a5, a6⟩))
      rw [h b1 a1 (fun z => by subst z; rw [hA] at a3; cases a3)]
      exact a3
    · refine Or.inr (Or.inr (Or.inr ⟨i, a1, a2, ?_, a4, a5, a6⟩))
      rw [h i a1 (fun z => by subst z; exact nv a5)]
      exact a3
end
theorem tm_st8 {z : Int32} (h1 : -128 ≤ z.toInt) (h2 : z.toInt < 128) : vp_nar .byte z.toInt8.toInt32 = z := by
  rw [pk_vb]
  exact lg_i2b_small h1 h2
theorem tm_sub32 {x y : Int32} (h1 : -2147483648 ≤ x.toInt - y.toInt) (h2 : x.toInt - y.toInt < 2147483648) : (x - y).toInt = x.toInt - y.toInt := by
  rw [Int32.toInt_sub]
  exact Int.bmod_eq_of_le (by omega) (by omega)
theorem tm_lset {x : Int32} {j : Nat} (hj : j < 8) (h : tm_low x) : tm_low (x ||| ((1 : Int32) <<< (nI j &&& 31))) := by
  intro i hi
  rw [tm_set x (by omega)] at hi
  by_cases z : i = j
  · omega
  · rw [decide_eq_false z, Bool.or_false] at hi
    exact h i hi
theorem tm_lclr {x : Int32} {j : Nat} (hj : j < 8) (h : tm_low x) : tm_low (x &&& (((1 : Int32) <<< (nI j &&& 31)) ^^^ (-1))) := by
  intro i hi
  rw [tm_clr x (by omega)] at hi
  cases z : bt x i
  · rw [z] at hi; cases hi
  · exact h i z
section
variable {T P us ud kn ch : Int32} {st en wo ga wa re sp th lo : Nat → Int32}
variable {d : Nat → Int} {k : Nat} {r : Nat → Nat}
theorem tm_fol {post : SX → Prop} (hk : k ≤ 10) (se : ∀ j, j < 8 → st j = nI (tm_c st j) ∧ en j = nI (tm_c en j)) (Dd : tm_Da (tm_c st) (tm_c en) (tm_t ga) (bt us))
    (K : ∀ ud' wa', tm_low ud' → tm_Fo (tm_c st) (tm_c en) (tm_t ga) (bt us) k d r sp 0 (bt ud') (tm_t wa') → post (T, P, us, ud', kn, ch, st, en, wo, ga, wa', re, sp)) :
    ∀ n x kk ud wa, r x < n → kk + r x ≤ 16 → x ≤ 16 → tm_low ud → tm_Fo (tm_c st) (tm_c en) (tm_t ga) (bt us) k d r sp x (bt ud) (tm_t wa) → wX_follow_5 post T P us kn ch n (nI x) (nI kk) ud st en wo ga wa re sp := by
  intro n
  induction n with
  | zero => intro x kk ud wa h; exact absurd h (Nat.not_lt_zero _)
  | succ n ih =>
    intro x kk ud wa hn hkk hx hlow H
    refine br_f (nI_ge (b := 64) (by omega) (by decide)) ?_
    by_cases x0 : x = 0
    · subst x0
      exact br_t (nI_le (a := 0) (b := 0) (Nat.le_refl _) (by decide)) (K ud wa hlow H)
    refine br_f (nI_nle (by omega) (by omega)) ⟨vp_in_nI (by omega) (by decide), ?_⟩
    obtain ⟨u, c, b, a, hb, hd, hr⟩ := H.2.2.2 x hx x0 (Nat.le_refl _)
    obtain ⟨u16, _, _, _, _, b18⟩ := tm_Arc_in (tm_Da_t Dd H.1) a
    have wb : ∀ t, t < 16 → 0 ≤ (wa t).toInt ∧ (wa t).toInt ≤ 11 := by
      intro t ht
      obtain ⟨q1, q2⟩ := H.2.1 t ht
      have q3 := tm_cr_0 (tm_c st) (tm_c en) (bt ud) t
      have q1' : 0 ≤ (wa t).toInt := q1
      have q2' : (wa t).toInt + tm_cr (tm_c st) (tm_c en) (bt ud) t = (k : Int) + (if x ≤ t then 1 else 0) := q2
      refine ⟨q1', ?_⟩
      revert q2'
      split <;> omega
    rw [nI_clamp (show x < 2 ^ 31 by omega), hb]
    refine nm_e ?_
    rcases a with ⟨rfl, hu, rfl, rfl⟩ | ⟨rfl, hx16, rfl, rfl, hw0⟩ | ⟨hb8, hU, hA, rfl, rfl, rfl⟩ | ⟨j, hj, rfl, hA, rfl, rfl, rfl⟩
    · refine br_t (show nI 16 = 16 from rfl) ?_
      rw [nI_pred u, nI_clamp (show u < 2 ^ 31 by omega)]
      have iu : vp_in (nI u) 16 := vp_in_nI hu (by decide)
      obtain ⟨w1, w2⟩ := wb u hu
      have ad : (wa u + 1).toInt = (wa u).toInt + 1 := tm_add (y := 1) (by rw [show (1 : Int32).toInt = 1 from by decide]; omega) (by rw [show (1 : Int32).toInt = 1 from by decide]; omega)
      rw [tm_st8 (z := wa u + 1) (by omega) (by omega)]
      refine ⟨iu, iu, nm_e (nm_r (pk_m1 u) (nm_r (nI_1 kk) (ih u (kk + 1) ud _ (by omega) (by omega) (by omega) hlow (tm_Fo16 H hr hu hd ?_))))⟩
      intro t ht
      show (upd wa u (wa u + 1) t).toInt = (wa t).toInt + _
      by_cases z : t = u
      · subst z; rw [pk_us, if_pos rfl, ad]
      · rw [pk_un z, if_neg z]; omega
    · refine br_f (show ¬ nI 17 = 16 from by decide) (br_t (show nI 17 = 17 from rfl) ?_)
      have ix : vp_in (nI x) 16 := vp_in_nI hx16 (by decide)
      obtain ⟨w1, w2⟩ := wb x hx16
      have sb : (wa x - 1).toInt = (wa x).toInt - 1 := tm_sub32 (y := 1) (by rw [show (1 : Int32).toInt = 1 from by decide]; omega) (by rw [show (1 : Int32).toInt = 1 from by decide]; omega)
      rw [tm_st8 (z := wa x - 1) (by omega) (by omega)]
      refine ⟨ix, ix, nm_e (nm_r (nI_1 x) (nm_r (nI_1 kk) (ih (x + 1) (kk + 1) ud _ (by omega) (by omega) (by omega) hlow (tm_Fo17 H hr hx16 hw0 ?_))))⟩
      intro t ht
      show (upd wa x (wa x - 1) t).toInt = (wa t).toInt - _
      by_cases z : t = x
      · subst z; rw [pk_us, if_pos rfl, sb]
      · rw [pk_un z, if_neg z]; omega
    · refine br_f (fun z => ?_) (br_f (fun z => ?_) (br_t (nI_lt (b := 8) hb8 (by decide)) (br_f (nI_pos (by omega)) (nm_e ⟨vp_in_nI hb8 (by decide), ?_⟩))))
      · have := (nI_eq (a := b) (b := 16) (by omega) (by decide)).mp z
        omega
      · have := (nI_eq (a := b) (b := 17) (by omega) (by decide)).mp z
        omega
      rw [nI_clamp (show b < 2 ^ 31 by omega)]
      refine nm_r (se b hb8).1 (nm_r (nI_1 kk) (ih (tm_c st b) (kk + 1) _ wa (by omega) (by omega) (by omega) (tm_lset hb8 hlow) (tm_FoJ hb8 Dd H hr hU hA hd ?_ ?_)))
      · intro i hi z
        rw [tm_set ud (by omega), decide_eq_false z, Bool.or_false]
      · rw [tm_set ud (by omega), decide_eq_true rfl, Bool.or_true]
    · refine br_f (fun z => ?_) (br_f (fun z => ?_) (br_f (nI_nlt (b := 8) (by omega) (by omega)) ?_))
      · have := (nI_eq (a := 8 + j) (b := 16) (by omega) (by decide)).mp z
        omega
      · have := (nI_eq (a := 8 + j) (b := 17) (by omega) (by decide)).mp z
        omega
      rw [show nI (8 + j) - 8 = nI j from by rw [show (8 : Int32) = nI 8 from rfl, pk_sub (by omega), Nat.add_sub_cancel_left], nI_clamp (show j < 2 ^ 31 by omega)]
      refine nm_e ⟨vp_in_nI hj (by decide), ?_⟩
      refine nm_r (se j hj).2 (nm_r (nI_1 kk) (ih (tm_c en j) (kk + 1) _ wa (by omega) (by omega) (by omega) (tm_lclr hj hlow) (tm_FoB hj Dd H hr hA hd ?_ ?_)))
      · intro i hi z
        rw [tm_clr ud (by omega), decide_eq_false z]
        cases bt ud i <;> rfl
      · rw [tm_clr ud (by omega), decide_eq_true rfl]
        cases bt ud j <;> rfl
theorem tm_snd {post : SX → Prop} {m : Nat} (hm : m ≤ 5) (se : ∀ j, j < 8 → st j = nI (tm_c st j) ∧ en j = nI (tm_c en j)) (Dd : tm_Da (tm_c st) (tm_c en) (tm_t ga) (bt us))
    (K : ∀ ud' wa' re' sp', tm_low ud' → tm_Flow (tm_c st) (tm_c en) (tm_t ga) (bt us) m (bt ud') (tm_t wa') → post (T, P, us, ud', kn, ch, st, en, wo, ga, wa', re', sp')) :
    ∀ dd k ud wa re sp, k + dd = m → tm_low ud → tm_Flow (tm_c st) (tm_c en) (tm_t ga) (bt us) k (bt ud) (tm_t wa) → wX_send_2 post (nI m) (dd + 1) (nI k) T P us ud kn ch st en wo ga wa re sp := by
  intro dd
  induction dd with
  | zero =>
    intro k ud wa re sp hk hl F
    have : k = m := by omega
    subst this
    exact br_t (nI_le (a := k) (b := k) (Nat.le_refl _) (by omega)) (K ud wa re sp hl F)
  | succ dd ih =>
    intro k ud wa re sp hk hl F
    refine br_f (nI_ge (a := k) (b := m) (by omega) (by omega)) ?_
    obtain ⟨F1, F2, p, F3, F4⟩ := F
    have Da := tm_Da_t Dd F1
    obtain ⟨d, d1, d2, d3⟩ := tm_dflow Da F3 F4
    refine tm_fw (d := d) se ⟨Da, d1, d2, d3⟩ ?_
    intro re' sp' h1 h2
    obtain ⟨r, r1, r2⟩ := tm_way ⟨Da, d1, d2, d3⟩ h1 h2
    refine ⟨17, tm_fol (k := k) (d := d) (r := r) (by omega) se Dd ?_ 17 16 0 ud wa (by have := r1 16 (by omega); omega) (by have := r1 16 (by omega); omega) (by omega) hl ⟨F1, fun t ht => ?_, tm_pot_Arc (fun u v c b a => d1.1 u v c ⟨b, a⟩), fun v hv v0 _ => r2 v hv v0⟩⟩
    · intro ud' wa' hl' G
      refine nm_r (nI_1 k) (ih (k + 1) ud' wa' re' sp' (by omega) hl' ?_)
      obtain ⟨G1, G2, G3, _⟩ := G
      refine ⟨G1, fun t ht => ?_, d, G3, fun t ht => ⟨d1.2.1 t ht, d2 t ht⟩⟩
      have := G2 t ht
      rw [if_pos (Nat.zero_le t)] at this
      omega
    · have := F2 t ht
      rw [if_neg (by omega)]
      omega
theorem tm_send {post : SX → Prop} {m : Nat} (hm : m ≤ 5) (se : ∀ j, j < 8 → st j = nI (tm_c st j) ∧ en j = nI (tm_c en j)) (Dd : tm_Da (tm_c st) (tm_c en) (tm_t ga) (bt us)) (h0 : ud = 0) (hw : ∀ t, t < 16 → wa t = 0)
    (K : ∀ ud' wa' re' sp', tm_low ud' → tm_Opt (tm_c st) (tm_c en) (tm_t ga) (bt us) m (bt ud') → post (T, P, us, ud', kn, ch, st, en, wo, ga, wa', re', sp')) : wpX_send post (T, P, us, ud, kn, ch, st, en, wo, ga, wa, re, sp) (nI m) := by
  subst h0
  refine ⟨m + 1, tm_snd hm se Dd (fun ud' wa' re' sp' hl F => K ud' wa' re' sp' hl (tm_opt (fun j hj hU => ?_) F)) m 0 0 wa re sp (by omega) (fun i hi => by rw [b_0] at hi; cases hi) ?_⟩
  · obtain ⟨a, b, c, _⟩ := Dd j hj
    exact ⟨a hU, c⟩
  · refine ⟨fun j _ z => (by rw [b_0] at z; cases z), fun t ht => ?_, fun t => (t : Int) * 2097152, ⟨fun t ht => ?_, fun t ht z => ?_, fun j hj hU _ => ?_, fun j _ z => (by rw [b_0] at z; cases z)⟩, fun t ht => ?_⟩
    · have e0 : tm_cr (tm_c st) (tm_c en) (bt 0) t = 0 := by
        unfold tm_cr
        rw [tm_S_cg (g := fun _ => 0) 8 (fun j _ => by rw [b_0, tm_b0]; exact Int.zero_mul _), tm_S_0]
      rw [e0]
      have : tm_t wa t = 0 := by
        show (wa t).toInt = 0
        rw [hw t ht]; decide
      omega
    · show (t : Int) * 2097152 ≤ ((t + 1 : Nat) : Int) * 2097152
      omega
    · have : tm_t wa t = 0 := by
        show (wa t).toInt = 0
        rw [hw t ht]; decide
      omega
    · obtain ⟨a, b, c, e1, e2⟩ := Dd j hj
      have := a hU
      show (tm_c st j : Int) * 2097152 + tm_t ga j ≤ (tm_c en j : Int) * 2097152
      omega
    · show 0 ≤ (t : Int) * 2097152 ∧ (t : Int) * 2097152 ≤ 33554432
      omega
end
end
section
/-! ===== X: sums, crowds, choose, totalFor, bestWith ===== -/
def tm_Ok (P : Int32) (st en wo : Nat → Int32) : Prop :=
  tm_low P ∧ ∀ j, j < 8 → st j = nI (tm_c st j) ∧ en j = nI (tm_c en j) ∧ wo j = nI (tm_c wo j) ∧ tm_c st j ≤ 16 ∧ tm_c en j ≤ 16 ∧ tm_c wo j ≤ 20 ∧ (bt P j = true → tm_c st j < tm_c en j)
def tm_g0 (wo : Nat → Int32) : Nat → Int := fun j => (tm_mw (tm_c wo) j : Int)
def tm_Best (P : Int32) (st en wo : Nat → Int32) (k : Nat) (A : Int32) : Prop :=
  tm_low A ∧ tm_Opt (tm_c st) (tm_c en) (tm_g0 wo) (bt P) k (bt A)
theorem tm_v_cg {g h : Nat → Int} (A : Nat → Bool) (e : ∀ j, j < 8 → g j = h j) : tm_v g A = tm_v h A :=
  tm_S_cg 8 (fun j hj => by rw [e j hj])
theorem tm_Opt_cg {s e : Nat → Nat} {g h : Nat → Int} {U A : Nat → Bool} {k : Nat} (q : ∀ j, j < 8 → g j = h j) (H : tm_Opt s e g U k A) : tm_Opt s e h U k A := by
  obtain ⟨a, b, c⟩ := H
  refine ⟨a, b, fun B hB fB => ?_⟩
  rw [← tm_v_cg B q, ← tm_v_cg A q]
  exact c B hB fB
theorem tm_v0 (wo : Nat → Int32) (A : Nat → Bool) : tm_v (tm_g0 wo) A = (tm_sN (tm_mw (tm_c wo)) A 8 : Int) := tm_vN _ A
theorem tm_Best_uq {P : Int32} {st en wo : Nat → Int32} {k : Nat} {A B : Int32} (hA : tm_Best P st en wo k A) (hB : tm_Best P st en wo k B) : A = B := by
  obtain ⟨a1, a2, a3, a4⟩ := hA
  obtain ⟨b1, b2, b3, b4⟩ := hB
  have h1 := a4 (bt B) b2 b3
  have h2 := b4 (bt A) a2 a3
  rw [tm_v0, tm_v0] at h1 h2
  exact tm_lowext a1 b1 (fun i hi => tm_mw_inj (w := tm_c wo) (by omega) i hi)
theorem tm_mk_le (j : Nat) : tm_mk j ≤ 128 := by
  unfold tm_mk
  exact Nat.pow_le_pow_right (by decide) (show 7 - j ≤ 7 by omega)
theorem tm_mw_le {w : Nat → Nat} {j : Nat} (h : w j ≤ 20) : tm_mw w j ≤ 5248 := by
  have := tm_mk_le j
  unfold tm_mw
  omega
theorem tm_sN_s (f : Nat → Nat) (A : Nat → Bool) (n : Nat) : tm_sN f A (n + 1) = tm_sN f A n + (if A n = true then f n else 0) := rfl
theorem tm_plain {post : Int32 → Prop} {m : Nat} (hm : m < 2 ^ 31) (h : post (nI (m / 256))) : wpX_plain post (nI m) := by
  unfold wpX_plain
  rw [pk_shrN hm ((8 : Int32) &&& 31) 8 (by decide)]
  exact h
section
variable {T P us ud kn ch : Int32} {st en wo ga wa re sp th lo : Nat → Int32}
theorem tm_ms4 {post : Int32 → Prop} {x : Int32} (hw : ∀ j, j < 8 → wo j = nI (tm_c wo j)) (h : post (nI (tm_sN (tm_mw (tm_c wo)) (bt x) 8))) : ∀ dd j, j + dd = 8 → wX_markedSum_4 post x T P us ud kn ch st en wo ga wa re sp (dd + 1) (nI (tm_sN (tm_mw (tm_c wo)) (bt x) j)) (nI j) := by
  intro dd
  induction dd with
  | zero =>
    intro j hj
    have : j = 8 := by omega
    subst this
    exact br_t (nI_le (a := 8) (b := 8) (Nat.le_refl _) (by decide)) h
  | succ dd ih =>
    intro j hj
    have i := ih (j + 1) (by omega)
    rw [tm_sN_s] at i
    refine br_f (nI_ge (b := 8) (by omega) (by decide)) ?_
    cases z : bt x j
    · rw [z, if_neg (by decide), Nat.add_zero] at i
      exact br_t ((tm_bit0 (by omega)).mpr z) (nm_r (nI_1 j) i)
    · rw [z, if_pos rfl] at i
      refine br_f (fun q => by rw [(tm_bit0 (by omega)).mp q] at z; cases z) (tm_mwX (by omega) (hw j (by omega)) ?_)
      exact nm_r (nI_add _ _) (nm_r (nI_1 j) i)
theorem tm_ms {post : Int32 → Prop} {x : Int32} (hw : ∀ j, j < 8 → wo j = nI (tm_c wo j)) (h : post (nI (tm_sN (tm_mw (tm_c wo)) (bt x) 8))) : wpX_markedSum post (T, P, us, ud, kn, ch, st, en, wo, ga, wa, re, sp) x :=
  ⟨9, tm_ms4 hw h 8 0 rfl⟩
theorem tm_ci1 {s e : Nat → Nat} {t j : Nat} (h1 : s j ≤ t) (h2 : t < e j) : tm_ci s e t j = 1 := if_pos ⟨h1, h2⟩
theorem tm_ci0 {s e : Nat → Nat} {t j : Nat} (h : ¬ (s j ≤ t ∧ t < e j)) : tm_ci s e t j = 0 := if_neg h
theorem tm_cr5 {post : Int32 → Prop} {x : Int32} {t : Nat} (ht : t < 16) (ok : tm_Ok P st en wo) (h : post (nI (tm_sN (tm_ci (tm_c st) (tm_c en) t) (bt x) 8))) : ∀ dd j, j + dd = 8 → wX_crowd_5 post x (nI t) T P us ud kn ch st en wo ga wa re sp (dd + 1) (nI (tm_sN (tm_ci (tm_c st) (tm_c en) t) (bt x) j)) (nI j) := by
  intro dd
  induction dd with
  | zero =>
    intro j hj
    have : j = 8 := by omega
    subst this
    exact br_t (nI_le (a := 8) (b := 8) (Nat.le_refl _) (by decide)) h
  | succ dd ih =>
    intro j hj
    have i := ih (j + 1) (by omega)
    have ij : vp_in (nI j) 8 := vp_in_nI (by omega) (by decide)
    obtain ⟨o1, o2, o3, o4, o5, o6, o7⟩ := ok.2 j (by omega)
    rw [tm_sN_s] at i
    refine br_f (nI_ge (b := 8) (by omega) (by decide)) ?_
    rw [nI_clamp (show j < 2 ^ 31 by omega), o1, o2]
    cases z : bt x j
    · rw [z, if_neg (by decide), Nat.add_zero] at i
      exact br_t ((tm_bit0 (by omega)).mpr z) (nm_r (nI_1 j) i)
    · rw [z, if_pos rfl] at i
      refine br_f (fun q => by rw [(tm_bit0 (by omega)).mp q] at z; cases z) ⟨ij, ?_⟩
      by_cases q1 : tm_c st j ≤ t
      · refine br_f (nI_nlt q1 (by omega)) ⟨ij, ?_⟩
        by_cases q2 : t < tm_c en j
        · rw [tm_ci1 q1 q2] at i
          exact br_f (nI_ge q2 (by omega)) (nm_r (nI_1 _) (nm_r (nI_1 j) i))
        · rw [tm_ci0 (fun q => q2 q.2), Nat.add_zero] at i
          exact br_t (nI_le (Nat.le_of_not_lt q2) (by omega)) (nm_r (nI_1 j) i)
      · rw [tm_ci0 (fun q => q1 q.1), Nat.add_zero] at i
        exact br_t (nI_lt (Nat.lt_of_not_le q1) (by omega)) (nm_r (nI_1 j) i)
theorem tm_crX {post : Int32 → Prop} {x : Int32} {t : Nat} (ht : t < 16) (ok : tm_Ok P st en wo) (h : post (nI (tm_sN (tm_ci (tm_c st) (tm_c en) t) (bt x) 8))) : wpX_crowd post (T, P, us, ud, kn, ch, st, en, wo, ga, wa, re, sp) x (nI t) :=
  ⟨9, tm_cr5 ht ok h 8 0 rfl⟩
theorem tm_sN_ci8 (s e : Nat → Nat) (A : Nat → Bool) (t : Nat) : tm_sN (tm_ci s e t) A 8 ≤ 8 := tm_sN_le A 8 (C := 1) (fun j _ => tm_ci_le s e t j)
theorem tm_gc4 {post : Int32 → Prop} {x : Int32} (ok : tm_Ok P st en wo) (h : post (nI (tm_gc (tm_c st) (tm_c en) (bt x) 16))) : ∀ dd t, t + dd = 16 → wX_greatestCrowd_4 post x T P us ud kn ch st en wo ga wa re sp (dd + 1) (nI (tm_gc (tm_c st) (tm_c en) (bt x) t)) (nI t) := by
  intro dd
  induction dd with
  | zero =>
    intro t ht
    have : t = 16 := by omega
    subst this
    exact br_t (nI_le (a := 16) (b := 16) (Nat.le_refl _) (by decide)) h
  | succ dd ih =>
    intro t ht
    have i := ih (t + 1) (by omega)
    have b1 := tm_gc_8 (tm_c st) (tm_c en) (bt x) t
    have b2 := tm_sN_ci8 (tm_c st) (tm_c en) (bt x) t
    refine br_f (nI_ge (b := 16) (by omega) (by decide)) (tm_crX (by omega) ok ?_)
    by_cases z : tm_sN (tm_ci (tm_c st) (tm_c en) t) (bt x) 8 ≤ tm_gc (tm_c st) (tm_c en) (bt x) t
    · have e : tm_gc (tm_c st) (tm_c en) (bt x) (t + 1) = tm_gc (tm_c st) (tm_c en) (bt x) t := if_pos z
      rw [e] at i
      exact br_t (nI_le z (by omega)) (nm_r (nI_1 t) i)
    · have e : tm_gc (tm_c st) (tm_c en) (bt x) (t + 1) = tm_sN (tm_ci (tm_c st) (tm_c en) t) (bt x) 8 := if_neg z
      rw [e] at i
      exact br_f (nI_ge (Nat.lt_of_not_le z) (by omega)) (nm_r (nI_1 t) i)
theorem tm_gcX {post : Int32 → Prop} {x : Int32} (ok : tm_Ok P st en wo) (h : post (nI (tm_gc (tm_c st) (tm_c en) (bt x) 16))) : wpX_greatestCrowd post (T, P, us, ud, kn, ch, st, en, wo, ga, wa, re, sp) x :=
  ⟨17, tm_gc4 ok h 16 0 rfl⟩
/-- send behind prepare: used is then the best set -/
theorem tm_ps {post : SX → Prop} {m : Nat} (hm : m ≤ 5) (ok : tm_Ok P st en wo) (hg : ∀ j, j < 8 → ga j = nI (tm_mw (tm_c wo) j)) (hw : ∀ t, t < 16 → wa t = 0)
    (K : ∀ ud' wa' re' sp', tm_Best P st en wo m ud' → post (T, P, P, ud', kn, ch, st, en, wo, ga, wa', re', sp')) :
    wpX_send post (T, P, P, 0, kn, ch, st, en, wo, ga, wa, re, sp) (nI m) := by
  have hgt : ∀ j, j < 8 → tm_t ga j = tm_g0 wo j := by
    intro j hj
    obtain ⟨o1, o2, o3, o4, o5, o6, o7⟩ := ok.2 j hj
    have := tm_mw_le o6
    show (ga j).toInt = _
    rw [hg j hj, nI_toInt (by omega)]
    rfl
  refine tm_send hm (fun j hj => ⟨(ok.2 j hj).1, (ok.2 j hj).2.1⟩) ?_ rfl hw ?_
  · intro j hj
    obtain ⟨o1, o2, o3, o4, o5, o6, o7⟩ := ok.2 j hj
    have h1 := tm_mw_le o6
    have h2 : tm_g0 wo j = (tm_mw (tm_c wo) j : Int) := rfl
    rw [hgt j hj]
    exact ⟨o7, o4, o5, by omega, by omega⟩
  · intro ud' wa2 re' sp' hl O
    exact K ud' wa2 re' sp' ⟨hl, tm_Opt_cg hgt O⟩
theorem tm_choose {post : SX → Prop} {k : Nat} (hk : k ≤ 4) (ok : tm_Ok P st en wo) (hb : kn ≠ 0 → tm_Best P st en wo k ch)
    (K : ∀ us' ud' ch' kn' ga' wa' re' sp', tm_Best P st en wo k ch' → post (nI k, P, us', ud', kn', ch', st, en, wo, ga', wa', re', sp')) : wpX_choose post (nI k, P, us, ud, kn, ch, st, en, wo, ga, wa, re, sp) := by
  refine br_c (fun z => ?_) (fun z => K us ud ch kn ga wa re sp (hb z))
  refine tm_prep (fun j hj => (ok.2 j hj).2.2.1) ?_
  intro ga' wa' hg hw
  refine tm_ps (m := k) (by omega) ok hg hw ?_
  intro ud' wa2 re' sp' B
  exact K P ud' ud' 1 ga' wa2 re' sp' B
theorem tm_mw_b (ok : tm_Ok P st en wo) (A : Nat → Bool) : tm_sN (tm_mw (tm_c wo)) A 8 ≤ 41984 := tm_sN_le A 8 (C := 5248) (fun j hj => tm_mw_le (ok.2 j hj).2.2.2.2.2.1)
theorem tm_totF {post : Int32 → SX → Prop} {m : Nat} (hm : m ≤ 5) (ok : tm_Ok P st en wo)
    (K : ∀ us' ud' ga' wa' re' sp', tm_Best P st en wo m ud' → post (nI (tm_sN (tm_c wo) (bt ud') 8)) (T, P, us', ud', kn, ch, st, en, wo, ga', wa', re', sp')) : wpX_totalFor post (T, P, us, ud, kn, ch, st, en, wo, ga, wa, re, sp) (nI m) := by
  unfold wpX_totalFor
  dsimp only
  refine tm_prep (fun j hj => (ok.2 j hj).2.2.1) ?_
  intro ga' wa' hg hw
  dsimp only
  refine tm_ps (m := m) hm ok hg hw ?_
  intro ud' wa2 re' sp' B
  dsimp only
  have b := tm_mw_b ok (bt ud')
  refine tm_ms (fun j hj => (ok.2 j hj).2.2.1) (tm_plain (by omega) ?_)
  rw [tm_mw_div]
  exact K P ud' ga' wa2 re' sp' B
end
end
section
/-! ===== X: bestWith ===== -/
def tm_iM (M : Nat → Bool) (j : Nat) : Nat := if M j = true then 1 else 0
theorem tm_cM_le (M A : Nat → Bool) : ∀ n, tm_sN (tm_iM M) A n ≤ tm_sN (tm_iM M) (fun _ => true) n
  | 0 => Nat.le_refl 0
  | n + 1 => by
    have := tm_cM_le M A n
    rw [tm_sN_s, tm_sN_s, if_pos rfl]
    split <;> omega
theorem tm_cM_lt (M A : Nat → Bool) (x : Nat) (hM : M x = true) (hA : A x = false) : ∀ n, x < n → tm_sN (tm_iM M) A n + 1 ≤ tm_sN (tm_iM M) (fun _ => true) n
  | 0, h => absurd h (Nat.not_lt_zero x)
  | n + 1, h => by
    rw [tm_sN_s, tm_sN_s, if_pos rfl]
    by_cases e : x = n
    · subst e
      have h1 : tm_iM M x = 1 := if_pos hM
      have := tm_cM_le M A x
      rw [hA, if_neg (by decide), h1]
      omega
    · have := tm_cM_lt M A x hM hA n (by omega)
      split <;> omega
theorem tm_cM_eq (M A : Nat → Bool) : ∀ n, (∀ j, j < n → M j = true → A j = true) → tm_sN (tm_iM M) A n = tm_sN (tm_iM M) (fun _ => true) n
  | 0, _ => rfl
  | n + 1, h => by
    rw [tm_sN_s, tm_sN_s, if_pos rfl, tm_cM_eq M A n (fun j hj => h j (by omega))]
    have q := h n (by omega)
    cases z : M n
    · have e : tm_iM M n = 0 := if_neg (by rw [z]; decide)
      rw [e]; split <;> rfl
    · rw [q z, if_pos rfl]
def tm_gm (w : Nat → Nat) (M : Nat → Bool) (j : Nat) : Nat := tm_mw w j + (if M j = true then 1048576 else 0)
theorem tm_gm_sum (w : Nat → Nat) (M A : Nat → Bool) : ∀ n, tm_sN (tm_gm w M) A n = tm_sN (tm_mw w) A n + 1048576 * tm_sN (tm_iM M) A n
  | 0 => rfl
  | n + 1 => by
    rw [tm_sN_s, tm_sN_s, tm_sN_s, tm_gm_sum w M A n]
    unfold tm_gm tm_iM
    by_cases q1 : A n = true
    · rw [if_pos q1, if_pos q1, if_pos q1]
      split <;> omega
    · rw [if_neg q1, if_neg q1, if_neg q1]
      rfl
/-- sets within P without V that fit and hold all of M -/
def tm_Adm (P : Int32) (st en : Nat → Int32) (k : Nat) (M V : Int32) (B : Nat → Bool) : Prop :=
  tm_Sub B (bt P) ∧ (∀ j, j < 8 → B j = true → bt V j = false) ∧ tm_Fit (tm_c st) (tm_c en) k B ∧ ∀ j, j < 8 → bt M j = true → B j = true
def tm_AdB (P : Int32) (st en wo : Nat → Int32) (k : Nat) (M V : Int32) (A : Int32) : Prop :=
  tm_low A ∧ tm_Adm P st en k M V (bt A) ∧ ∀ B, tm_Adm P st en k M V B → tm_sN (tm_mw (tm_c wo)) B 8 ≤ tm_sN (tm_mw (tm_c wo)) (bt A) 8
section
variable {T P us ud kn ch : Int32} {st en wo ga wa re sp th lo : Nat → Int32}
theorem tm_adm1 {M V A : Int32} {k : Nat} (hl : tm_low A) (O : tm_Opt (tm_c st) (tm_c en) (fun j => (tm_gm (tm_c wo) (bt M) j : Int)) (bt (P &&& (V ^^^ (-1)))) k (bt A)) (hM : ∀ j, j < 8 → bt M j = true → bt A j = true) : tm_AdB P st en wo k M V A := by
  obtain ⟨o1, o2, o3⟩ := O
  refine ⟨hl, ⟨fun j hj z => ?_, fun j hj z => ?_, o2, hM⟩, fun B hB => ?_⟩
  · have := o1 j hj z
    rw [tm_andn] at this
    revert this
    cases bt P j
    · intro h; cases h
    · intro _; rfl
  · have := o1 j hj z
    rw [tm_andn] at this
    revert this
    cases bt P j <;> cases bt V j <;> intro h <;> first | rfl | cases h
  · obtain ⟨b1, b2, b3, b4⟩ := hB
    have h := o3 B (fun j hj z => by rw [tm_andn, b1 j hj z, b2 j hj z]; rfl) b3
    rw [tm_vN, tm_vN, tm_gm_sum, tm_gm_sum, tm_cM_eq (bt M) B 8 b4, tm_cM_eq (bt M) (bt A) 8 hM] at h
    omega
theorem tm_adm0 {M V A : Int32} {k : Nat} (ok : tm_Ok P st en wo) (O : tm_Opt (tm_c st) (tm_c en) (fun j => (tm_gm (tm_c wo) (bt M) j : Int)) (bt (P &&& (V ^^^ (-1)))) k (bt A)) {x : Nat} (hx : x < 8) (h1 : bt M x = true) (h2 : bt A x = false) : ∀ B, ¬ tm_Adm P st en k M V B := by
  intro B hB
  obtain ⟨o1, o2, o3⟩ := O
  obtain ⟨b1, b2, b3, b4⟩ := hB
  have h := o3 B (fun j hj z => by rw [tm_andn, b1 j hj z, b2 j hj z]; rfl) b3
  have q := tm_mw_b ok (bt A)
  have l := tm_cM_lt (bt M) (bt A) x h1 h2 8 hx
  rw [tm_vN, tm_vN, tm_gm_sum, tm_gm_sum, tm_cM_eq (bt M) B 8 b4] at h
  omega
theorem tm_bw14 {post : Int32 → SX → Prop} {M : Int32} (ok : tm_Ok P st en wo)
    (K : ∀ ga', (∀ j, j < 8 → ga' j = nI (tm_gm (tm_c wo) (bt M) j)) → wpX_send (fun u => match u with | (T2, P2, us2, ud2, kn2, ch2, st2, en2, wo2, ga2, wa2, re2, sp2) => (((M &&& (ud2 ^^^ (-1))) = 0 → post ud2 (T2, P2, us2, ud2, kn2, ch2, st2, en2, wo2, ga2, wa2, re2, sp2)) ∧ (¬ (M &&& (ud2 ^^^ (-1))) = 0 → post (-1) (T2, P2, us2, ud2, kn2, ch2, st2, en2, wo2, ga2, wa2, re2, sp2)))) (T, P, us, ud, kn, ch, st, en, wo, ga', wa, re, sp) T) :
    ∀ dd j ga, j + dd = 8 → (∀ i, i < j → ga i = nI (tm_gm (tm_c wo) (bt M) i)) → (∀ i, j ≤ i → i < 8 → ga i = nI (tm_mw (tm_c wo) i)) → wX_bestWith_14 post M T P us ud kn ch (dd + 1) (nI j) st en wo ga wa re sp := by
  intro dd
  induction dd with
  | zero =>
    intro j ga hj h1 h2
    have : j = 8 := by omega
    subst this
    exact br_t (nI_le (a := 8) (b := 8) (Nat.le_refl _) (by decide)) (K ga h1)
  | succ dd ih =>
    intro j ga hj h1 h2
    refine br_f (nI_ge (b := 8) (by omega) (by decide)) ?_
    have ij : vp_in (nI j) 8 := vp_in_nI (by omega) (by decide)
    have h3 := h2 j (Nat.le_refl j) (by omega)
    cases z : bt M j
    · refine br_t ((tm_bit0 (by omega)).mpr z) (nm_r (nI_1 j) (ih (j + 1) ga (by omega) (fun i hi => ?_) (fun i hi => h2 i (by omega))))
      by_cases q : i = j
      · subst q
        rw [h3]
        unfold tm_gm
        rw [z, if_neg (by decide), Nat.add_zero]
      · exact h1 i (by omega)
    · refine br_f (fun q => by rw [(tm_bit0 (by omega)).mp q] at z; cases z) ⟨ij, ij, ?_⟩
      rw [nI_clamp (show j < 2 ^ 31 by omega)]
      refine nm_e (nm_r (nI_1 j) (ih (j + 1) _ (by omega) (fun i hi => ?_) (fun i hi h8 => ?_)))
      · by_cases q : i = j
        · subst q
          rw [pk_us, h3, show (1048576 : Int32) = nI 1048576 from rfl, nI_add]
          unfold tm_gm
          rw [z, if_pos rfl]
        · rw [pk_un q]; exact h1 i (by omega)
      · rw [pk_un (by omega)]; exact h2 i (by omega) h8
theorem tm_bw {post : Int32 → SX → Prop} {M V : Int32} {k : Nat} (hk : k ≤ 4) (ok : tm_Ok P st en wo) (hM : tm_low M)
    (K1 : ∀ us' A ga' wa' re' sp', tm_AdB P st en wo k M V A → post A (nI k, P, us', A, kn, ch, st, en, wo, ga', wa', re', sp'))
    (K2 : ∀ us' ud' ga' wa' re' sp', (∀ B, ¬ tm_Adm P st en k M V B) → post (-1) (nI k, P, us', ud', kn, ch, st, en, wo, ga', wa', re', sp')) : wpX_bestWith post (nI k, P, us, ud, kn, ch, st, en, wo, ga, wa, re, sp) M V := by
  unfold wpX_bestWith
  dsimp only
  refine tm_prep (fun j hj => (ok.2 j hj).2.2.1) ?_
  intro ga' wa' hg hw
  refine ⟨9, tm_bw14 ok ?_ 8 0 ga' rfl (fun i hi => absurd hi (Nat.not_lt_zero i)) (fun i _ hi => hg i hi)⟩
  intro ga2 hg2
  have hgt : ∀ j, j < 8 → tm_t ga2 j = (tm_gm (tm_c wo) (bt M) j : Int) ∧ tm_gm (tm_c wo) (bt M) j ≤ 2097152 := by
    intro j hj
    obtain ⟨o1, o2, o3, o4, o5, o6, o7⟩ := ok.2 j hj
    have h1 := tm_mw_le o6
    have h2 : tm_gm (tm_c wo) (bt M) j ≤ 2097152 := by
      unfold tm_gm
      split <;> omega
    refine ⟨?_, h2⟩
    show (ga2 j).toInt = _
    rw [hg2 j hj, nI_toInt (by omega)]
  refine tm_send (m := k) (by omega) (fun j hj => ⟨(ok.2 j hj).1, (ok.2 j hj).2.1⟩) ?_ rfl hw ?_
  · intro j hj
    obtain ⟨o1, o2, o3, o4, o5, o6, o7⟩ := ok.2 j hj
    obtain ⟨h1, h2⟩ := hgt j hj
    rw [h1]
    refine ⟨fun z => o7 ?_, o4, o5, by omega, by omega⟩
    rw [tm_andn] at z
    revert z
    cases bt P j
    · intro h; cases h
    · intro _; rfl
  · intro A wa2 re' sp' hl O
    have O' := tm_Opt_cg (h := fun j => (tm_gm (tm_c wo) (bt M) j : Int)) (fun j hj => (hgt j hj).1) O
    by_cases z : ∃ x, x < 8 ∧ bt M x = true ∧ bt A x = false
    · obtain ⟨x, hx, x1, x2⟩ := z
      refine br_f (fun q => ?_) (K2 _ A ga2 wa2 re' sp' (tm_adm0 ok O' hx x1 x2))
      have := tm_sub0.mp q x x1
      rw [x2] at this; cases this
    · have hs : ∀ j, bt M j = true → bt A j = true := by
        intro j h
        cases q : bt A j
        · exact absurd ⟨j, hM j h, h, q⟩ z
        · rfl
      exact br_t (tm_sub0.mpr hs) (K1 _ A ga2 wa2 re' sp' (tm_adm1 hl O' (fun j _ h => hs j h)))
end
end
section
/-! ===== Y: jobs, at, work, sum, before, best ===== -/
def tm_Th (P : Int32) (th : Nat → Int32) : Prop := ∀ j, j < 8 → (th j = 0 ↔ bt P j = false)
def tm_Lo (P : Int32) (st en lo : Nat → Int32) : Prop := ∀ m, m < 256 → (∀ i, bt (nI m) i = true → bt P i = true) → lo m = nI (tm_gc (tm_c st) (tm_c en) (bt (nI m)) 16)
section
variable {T P us ud kn ch : Int32} {st en wo ga wa re sp th lo : Nat → Int32}
theorem tm_jb4 {post : Int32 → Prop} (hP : tm_low P) (ht : tm_Th P th) (h : post P) : ∀ dd j x, j + dd = 8 → (∀ i, bt x i = (bt P i && decide (i < j))) → wY_jobs_4 post T th st en wo lo (dd + 1) x (nI j) := by
  intro dd
  induction dd with
  | zero =>
    intro j x hj hx
    have : j = 8 := by omega
    subst this
    have e : x = P := by
      apply b_ext
      intro i _
      rw [hx i]
      cases z : bt P i
      · rfl
      · rw [decide_eq_true (hP i z)]; rfl
    subst e
    exact br_t (nI_le (a := 8) (b := 8) (Nat.le_refl _) (by decide)) h
  | succ dd ih =>
    intro j x hj hx
    refine br_f (nI_ge (b := 8) (by omega) (by decide)) ⟨vp_in_nI (by omega) (by decide), ?_⟩
    rw [nI_clamp (show j < 2 ^ 31 by omega)]
    refine br_c (fun z => nm_e (nm_r (nI_1 j) (ih (j + 1) _ (by omega) (fun i => ?_)))) (fun z => nm_e (nm_r (nI_1 j) (ih (j + 1) _ (by omega) (fun i => ?_))))
    · rw [b_or, b_0, Bool.or_false, hx i]
      rw [ht j (by omega)] at z
      by_cases q : i = j
      · subst q; rw [z]; rfl
      · by_cases q2 : i < j
        · rw [decide_eq_true q2, decide_eq_true (show i < j + 1 by omega)]
        · rw [decide_eq_false q2, decide_eq_false (show ¬ i < j + 1 by omega)]
    · rw [tm_set x (by omega), hx i]
      have z1 : bt P j = true := by
        cases q : bt P j
        · exact absurd ((ht j (by omega)).mpr q) z
        · rfl
      by_cases q : i = j
      · subst q; rw [z1, decide_eq_true rfl, decide_eq_true (show i < i + 1 by omega), Bool.or_true]; rfl
      · rw [decide_eq_false q, Bool.or_false]
        by_cases q2 : i < j
        · rw [decide_eq_true q2, decide_eq_true (show i < j + 1 by omega)]
        · rw [decide_eq_false q2, decide_eq_false (show ¬ i < j + 1 by omega)]
theorem tm_jb {post : Int32 → Prop} (hP : tm_low P) (ht : tm_Th P th) (h : post P) : wpY_jobs post (T, th, st, en, wo, lo) :=
  ⟨9, tm_jb4 hP ht h 8 0 0 rfl (fun i => by rw [b_0, decide_eq_false (Nat.not_lt_zero i), Bool.and_false])⟩
theorem tm_at5 {post : Int32 → Prop} {x : Int32} {t : Nat} (ht : t < 16) (ok : tm_Ok P st en wo) (h : post (nI (tm_sN (tm_ci (tm_c st) (tm_c en) t) (bt x) 8))) : ∀ dd j, j + dd = 8 → wY_at_5 post x (nI t) T th st en wo lo (dd + 1) (nI (tm_sN (tm_ci (tm_c st) (tm_c en) t) (bt x) j)) (nI j) := by
  intro dd
  induction dd with
  | zero =>
    intro j hj
    have : j = 8 := by omega
    subst this
    exact br_t (nI_le (a := 8) (b := 8) (Nat.le_refl _) (by decide)) h
  | succ dd ih =>
    intro j hj
    have i := ih (j + 1) (by omega)
    have ij : vp_in (nI j) 8 := vp_in_nI (by omega) (by decide)
    obtain ⟨o1, o2, o3, o4, o5, o6, o7⟩ := ok.2 j (by omega)
    rw [tm_sN_s] at i
    refine br_f (nI_ge (b := 8) (by omega) (by decide)) ?_
    rw [nI_clamp (show j < 2 ^ 31 by omega), o1, o2]
    cases z : bt x j
    · rw [z, if_neg (by decide), Nat.add_zero] at i
      exact br_f (fun q => by rw [(tm_bit1 (by omega)).mp q] at z; cases z) (nm_r (Int32.add_zero _) (nm_r (nI_1 j) i))
    · rw [z, if_pos rfl] at i
      refine br_t ((tm_bit1 (by omega)).mpr z) ⟨ij, ?_⟩
      by_cases q1 : tm_c st j ≤ t
      · refine br_f (nI_nlt q1 (by omega)) ⟨ij, ?_⟩
        by_cases q2 : t < tm_c en j
        · rw [tm_ci1 q1 q2] at i
          exact br_f (nI_ge q2 (by omega)) (nm_r (nI_1 _) (nm_r (nI_1 j) i))
        · rw [tm_ci0 (fun q => q2 q.2), Nat.add_zero] at i
          exact br_t (nI_le (Nat.le_of_not_lt q2) (by omega)) (nm_r (Int32.add_zero _) (nm_r (nI_1 j) i))
      · rw [tm_ci0 (fun q => q1 q.1), Nat.add_zero] at i
        exact br_t (nI_lt (Nat.lt_of_not_le q1) (by omega)) (nm_r (Int32.add_zero _) (nm_r (nI_1 j) i))
theorem tm_at {post : Int32 → Prop} {x : Int32} {t : Nat} (ht : t < 16) (ok : tm_Ok P st en wo) (h : post (nI (tm_sN (tm_ci (tm_c st) (tm_c en) t) (bt x) 8))) : wpY_at post (T, th, st, en, wo, lo) x (nI t) :=
  ⟨9, tm_at5 ht ok h 8 0 rfl⟩
theorem tm_wk23 {post : SY → Prop} {J7 : Int32 → (Nat → Int32) → (Nat → Int32) → (Nat → Int32) → (Nat → Int32) → (Nat → Int32) → Prop} {m : Nat} {l0 : Nat → Int32} (hm : m < 256) (ok : tm_Ok P st en wo) (hs : ∀ i, bt (nI m) i = true → bt P i = true)
    (K : ∀ lo', (∀ i, i ≠ m → lo' i = l0 i) → lo' m = nI (tm_gc (tm_c st) (tm_c en) (bt (nI m)) 16) → J7 (nI (m + 1)) th st en wo lo') :
    ∀ dd t lo, t + dd = 16 → (∀ i, i ≠ m → lo i = l0 i) → lo m = nI (tm_gc (tm_c st) (tm_c en) (bt (nI m)) t) → wY_work_23 post J7 P (nI m) T (dd + 1) (nI t) th st en wo lo := by
  intro dd
  induction dd with
  | zero =>
    intro t lo ht h1 h2
    have : t = 16 := by omega
    subst this
    exact br_t (nI_le (a := 16) (b := 16) (Nat.le_refl _) (by decide)) (nm_r (nI_1 m) (K lo h1 h2))
  | succ dd ih =>
    intro t lo ht h1 h2
    have im : vp_in (nI m) 256 := vp_in_nI hm (by decide)
    have b1 := tm_gc_8 (tm_c st) (tm_c en) (bt (nI m)) t
    have b2 := tm_sN_ci8 (tm_c st) (tm_c en) (bt (nI m)) t
    refine br_f (nI_ge (b := 16) (by omega) (by decide)) (br_t (tm_sub0.mpr hs) (tm_at (by omega) ok ⟨im, ?_⟩))
    rw [nI_clamp (show m < 2 ^ 31 by omega), h2]
    by_cases z : tm_sN (tm_ci (tm_c st) (tm_c en) t) (bt (nI m)) 8 ≤ tm_gc (tm_c st) (tm_c en) (bt (nI m)) t
    · have e : tm_gc (tm_c st) (tm_c en) (bt (nI m)) (t + 1) = tm_gc (tm_c st) (tm_c en) (bt (nI m)) t := if_pos z
      refine br_t (nI_le z (by omega)) ⟨im, im, nm_e (nm_r (nI_1 t) (ih (t + 1) _ (by omega) (fun i hi => ?_) ?_))⟩
      · rw [pk_un hi]; exact h1 i hi
      · rw [pk_us, e]
    · have e : tm_gc (tm_c st) (tm_c en) (bt (nI m)) (t + 1) = tm_sN (tm_ci (tm_c st) (tm_c en) t) (bt (nI m)) 8 := if_neg z
      refine br_f (nI_ge (Nat.lt_of_not_le z) (by omega)) ⟨im, nm_e (nm_r (nI_1 t) (ih (t + 1) _ (by omega) (fun i hi => ?_) ?_))⟩
      · rw [pk_un hi]; exact h1 i hi
      · rw [pk_us, e]
theorem tm_wk7 {post : SY → Prop} (ok : tm_Ok P st en wo) (K : ∀ lo', tm_Lo P st en lo' → post (T, th, st, en, wo, lo')) :
    ∀ dd m lo, m + dd = 256 → (∀ i, i < m → (∀ q, bt (nI i) q = true → bt P q = true) → lo i = nI (tm_gc (tm_c st) (tm_c en) (bt (nI i)) 16)) → wY_work_7 post P T (dd + 1) (nI m) th st en wo lo := by
  intro dd
  induction dd with
  | zero =>
    intro m lo hm h
    have : m = 256 := by omega
    subst this
    exact br_t (nI_le (a := 256) (b := 256) (Nat.le_refl _) (by decide)) (K lo h)
  | succ dd ih =>
    intro m lo hm h
    refine br_f (nI_ge (b := 256) (by omega) (by decide)) ⟨vp_in_nI (by omega) (by decide), ?_⟩
    rw [nI_clamp (show m < 2 ^ 31 by omega)]
    refine nm_e ⟨17, ?_⟩
    by_cases hs : ∀ i, bt (nI m) i = true → bt P i = true
    · refine tm_wk23 (l0 := lo) (by omega) ok hs ?_ 16 0 _ rfl (fun i hi => pk_un hi) pk_us
      intro lo' h1 h2
      refine ih (m + 1) lo' (by omega) (fun i hi q => ?_)
      by_cases z : i = m
      · subst z; exact h2
      · rw [h1 i z]; exact h i (by omega) q
    · refine br_f (nI_ge (a := 0) (b := 16) (by decide) (by decide)) (br_f (fun z => hs (tm_sub0.mp z)) (nm_r (nI_1 m) (ih (m + 1) _ (by omega) (fun i hi q => ?_))))
      by_cases z : i = m
      · subst z; exact absurd q hs
      · rw [pk_un z]; exact h i (by omega) q
theorem tm_work {post : SY → Prop} (ok : tm_Ok P st en wo) (ht : tm_Th P th) (K : ∀ lo', tm_Lo P st en lo' → post (T, th, st, en, wo, lo')) : wpY_work post (T, th, st, en, wo, lo) := by
  unfold wpY_work
  dsimp only
  refine tm_jb ok.1 ht ⟨257, ?_⟩
  exact tm_wk7 ok K 256 0 lo rfl (fun i hi => absurd hi (Nat.not_lt_zero i))
theorem tm_sm4 {post : Int32 → Prop} {x : Int32} (hw : ∀ j, j < 8 → wo j = nI (tm_c wo j)) (h : post (nI (tm_sN (tm_c wo) (bt x) 8))) : ∀ dd j, j + dd = 8 → wY_sum_4 post x T th st en wo lo (dd + 1) (nI (tm_sN (tm_c wo) (bt x) j)) (nI j) := by
  intro dd
  induction dd with
  | zero =>
    intro j hj
    have : j = 8 := by omega
    subst this
    exact br_t (nI_le (a := 8) (b := 8) (Nat.le_refl _) (by decide)) h
  | succ dd ih =>
    intro j hj
    have i := ih (j + 1) (by omega)
    have ij : vp_in (nI j) 8 := vp_in_nI (by omega) (by decide)
    rw [tm_sN_s] at i
    refine br_f (nI_ge (b := 8) (by omega) (by decide)) ?_
    rw [nI_clamp (show j < 2 ^ 31 by omega), hw j (by omega)]
    cases z : bt x j
    · rw [z, if_neg (by decide), Nat.add_zero] at i
      exact br_f (fun q => by rw [(tm_bit1 (by omega)).mp q] at z; cases z) (nm_r (Int32.add_zero _) (nm_r (nI_1 j) i))
    · rw [z, if_pos rfl] at i
      exact br_t ((tm_bit1 (by omega)).mpr z) ⟨ij, nm_r (nI_add _ _) (nm_r (nI_1 j) i)⟩
theorem tm_sm {post : Int32 → Prop} {x : Int32} (hw : ∀ j, j < 8 → wo j = nI (tm_c wo j)) (h : post (nI (tm_sN (tm_c wo) (bt x) 8))) : wpY_sum post (T, th, st, en, wo, lo) x :=
  ⟨9, tm_sm4 hw h 8 0 rfl⟩
theorem tm_be34 {post : Int32 → Prop} {a b : Int32} (h : post (if tm_sN tm_mk (bt b) 8 < tm_sN tm_mk (bt a) 8 then 1 else 0)) : ∀ dd j, j + dd = 8 → (∀ i, i < j → bt a i = bt b i) → wY_before_34 post a b T th st en wo lo (dd + 1) (nI j) := by
  intro dd
  induction dd with
  | zero =>
    intro j hj he
    have : j = 8 := by omega
    subst this
    have e : tm_sN tm_mk (bt a) 8 = tm_sN tm_mk (bt b) 8 := tm_sN_cg 8 he (fun _ _ _ => rfl)
    rw [e, if_neg (Nat.lt_irrefl _)] at h
    exact br_t (nI_le (a := 8) (b := 8) (Nat.le_refl _) (by decide)) h
  | succ dd ih =>
    intro j hj he
    refine br_f (nI_ge (b := 8) (by omega) (by decide)) ?_
    rw [tm_bv a (show j < 32 by omega), tm_bv b (show j < 32 by omega)]
    cases za : bt a j <;> cases zb : bt b j
    · refine br_t rfl (nm_r (nI_1 j) (ih (j + 1) (by omega) (fun i hi => ?_)))
      by_cases q : i = j
      · subst q; rw [za, zb]
      · exact he i (by omega)
    · have l := tm_rev_lt (A := bt b) (B := bt a) j (by omega) (fun i hi => (he i hi).symm) zb za
      rw [if_neg (by omega)] at h
      exact br_f (by decide) (br_f (by decide) h)
    · have l := tm_rev_lt (A := bt a) (B := bt b) j (by omega) he za zb
      rw [if_pos l] at h
      exact br_f (by decide) (br_t (by decide) h)
    · refine br_t rfl (nm_r (nI_1 j) (ih (j + 1) (by omega) (fun i hi => ?_)))
      by_cases q : i = j
      · subst q; rw [za, zb]
      · exact he i (by omega)
theorem tm_be {post : Int32 → Prop} {a b : Int32} (ok : tm_Ok P st en wo) (h : post (if tm_sN (tm_mw (tm_c wo)) (bt b) 8 < tm_sN (tm_mw (tm_c wo)) (bt a) 8 then 1 else 0)) : wpY_before post (T, th, st, en, wo, lo) a b := by
  have hw : ∀ j, j < 8 → wo j = nI (tm_c wo j) := fun j hj => (ok.2 j hj).2.2.1
  have la := tm_sN_le (bt a) 8 (f := tm_c wo) (C := 20) (fun j hj => (ok.2 j hj).2.2.2.2.2.1)
  have lb := tm_sN_le (bt b) 8 (f := tm_c wo) (C := 20) (fun j hj => (ok.2 j hj).2.2.2.2.2.1)
  have ra := tm_rev_le (bt a)
  have rb := tm_rev_le (bt b)
  rw [tm_mw_sum, tm_mw_sum] at h
  unfold wpY_before
  dsimp only
  refine tm_sm hw (tm_sm hw ?_)
  by_cases z : tm_sN (tm_c wo) (bt a) 8 = tm_sN (tm_c wo) (bt b) 8
  · refine br_t (by rw [z]) ⟨9, tm_be34 ?_ 8 0 rfl (fun i hi => absurd hi (Nat.not_lt_zero i))⟩
    by_cases q : tm_sN tm_mk (bt b) 8 < tm_sN tm_mk (bt a) 8
    · rw [if_pos (by omega)] at h
      rw [if_pos q]; exact h
    · rw [if_neg (by omega)] at h
      rw [if_neg q]; exact h
  · refine br_f (fun q => z ((nI_eq (by omega) (by omega)).mp q)) ?_
    by_cases q : tm_sN (tm_c wo) (bt a) 8 ≤ tm_sN (tm_c wo) (bt b) 8
    · rw [if_neg (by omega)] at h
      exact br_t (nI_le q (by omega)) h
    · rw [if_pos (by omega)] at h
      exact br_f (nI_ge (Nat.lt_of_not_le q) (by omega)) h
theorem tm_bs10 {post : Int32 → Prop} {k : Nat} (hk : k ≤ 5) (ok : tm_Ok P st en wo) (hlo : tm_Lo P st en lo)
    (K : ∀ A, tm_low A → (∀ i, bt A i = true → bt P i = true) → tm_Fit (tm_c st) (tm_c en) k (bt A) → (∀ m, m < 256 → (∀ i, bt (nI m) i = true → bt P i = true) → tm_Fit (tm_c st) (tm_c en) k (bt (nI m)) → tm_sN (tm_mw (tm_c wo)) (bt (nI m)) 8 ≤ tm_sN (tm_mw (tm_c wo)) (bt A) 8) → post A) :
    ∀ dd m b, m + dd = 256 → tm_low b → (∀ i, bt b i = true → bt P i = true) → tm_Fit (tm_c st) (tm_c en) k (bt b) → (∀ i, i < m → (∀ q, bt (nI i) q = true → bt P q = true) → tm_Fit (tm_c st) (tm_c en) k (bt (nI i)) → tm_sN (tm_mw (tm_c wo)) (bt (nI i)) 8 ≤ tm_sN (tm_mw (tm_c wo)) (bt b) 8) → wY_best_10 post (nI k) P T th st en wo lo (dd + 1) b (nI m) := by
  intro dd
  induction dd with
  | zero =>
    intro m b hm h1 h2 h3 h4
    have : m = 256 := by omega
    subst this
    exact br_t (nI_le (a := 256) (b := 256) (Nat.le_refl _) (by decide)) (K b h1 h2 h3 h4)
  | succ dd ih =>
    intro m b hm h1 h2 h3 h4
    refine br_f (nI_ge (b := 256) (by omega) (by decide)) (br_c (fun z => ?_) (fun z => ?_))
    · have hs := tm_sub0.mp z
      have b1 := tm_gc_8 (tm_c st) (tm_c en) (bt (nI m)) 16
      have fi := tm_gc_fit (tm_c st) (tm_c en) (bt (nI m)) k
      refine ⟨vp_in_nI (by omega) (by decide), ?_⟩
      rw [nI_clamp (show m < 2 ^ 31 by omega), hlo m (by omega) hs]
      by_cases q : tm_gc (tm_c st) (tm_c en) (bt (nI m)) 16 ≤ k
      · refine br_f (nI_nlt q (by omega)) (tm_be ok ?_)
        by_cases l : tm_sN (tm_mw (tm_c wo)) (bt b) 8 < tm_sN (tm_mw (tm_c wo)) (bt (nI m)) 8
        · rw [if_pos l]
          refine br_f (by decide) (nm_r (nI_1 m) (ih (m + 1) (nI m) (by omega) (tm_nlow (by omega)) hs (fi.mp q) (fun i hi g1 g2 => ?_)))
          by_cases e : i = m
          · subst e; exact Nat.le_refl _
          · have := h4 i (by omega) g1 g2
            omega
        · rw [if_neg l]
          refine br_t rfl (nm_r (nI_1 m) (ih (m + 1) b (by omega) h1 h2 h3 (fun i hi g1 g2 => ?_)))
          by_cases e : i = m
          · subst e; omega
          · exact h4 i (by omega) g1 g2
      · refine br_t (nI_lt (Nat.lt_of_not_le q) (by omega)) (nm_r (nI_1 m) (ih (m + 1) b (by omega) h1 h2 h3 (fun i hi g1 g2 => ?_)))
        by_cases e : i = m
        · subst e; exact absurd (fi.mpr g2) q
        · exact h4 i (by omega) g1 g2
    · refine nm_r (nI_1 m) (ih (m + 1) b (by omega) h1 h2 h3 (fun i hi g1 g2 => ?_))
      by_cases e : i = m
      · subst e; exact absurd (tm_sub0.mpr g1) z
      · exact h4 i (by omega) g1 g2
theorem tm_Fit_cg {s e : Nat → Nat} {k : Nat} {A B : Nat → Bool} (h : ∀ j, j < 8 → A j = B j) (F : tm_Fit s e k A) : tm_Fit s e k B := by
  rw [← tm_gc_fit] at F ⊢
  rw [← tm_gc_cg s e h]
  exact F
theorem tm_fit0 (s e : Nat → Nat) (k : Nat) : tm_Fit s e k (bt 0) := by
  intro t _
  have e0 : tm_cr s e (bt 0) t = 0 := by
    unfold tm_cr
    rw [tm_S_cg (g := fun _ => 0) 8 (fun j _ => by rw [b_0, tm_b0]; exact Int.zero_mul _), tm_S_0]
  rw [e0]
  omega
theorem tm_encS {B : Nat → Bool} (hP : tm_low P) (hB : tm_Sub B (bt P)) : ∃ m, m < 256 ∧ (∀ j, j < 8 → bt (nI m) j = B j) ∧ ∀ i, bt (nI m) i = true → bt P i = true := by
  obtain ⟨m, hm, hb⟩ := tm_enc B
  refine ⟨m, hm, hb, fun i hi => ?_⟩
  have i8 := tm_nlow hm i hi
  rw [hb i i8] at hi
  exact hB i i8 hi
theorem tm_bs {post : Int32 → Prop} {k : Nat} (hk : k ≤ 5) (ok : tm_Ok P st en wo) (ht : tm_Th P th) (hlo : tm_Lo P st en lo) (K : ∀ A, tm_Best P st en wo k A → post A) : wpY_best post (T, th, st, en, wo, lo) (nI k) := by
  unfold wpY_best
  dsimp only
  refine tm_jb ok.1 ht ⟨256, tm_bs10 hk ok hlo ?_ 255 1 0 rfl (fun i hi => ?_) (fun i hi => ?_) (tm_fit0 _ _ k) (fun i hi _ _ => ?_)⟩
  · intro A h1 h2 h3 h4
    refine K A ⟨h1, fun j _ z => h2 j z, h3, fun B hB fB => ?_⟩
    obtain ⟨m, hm, hb, hs⟩ := tm_encS ok.1 hB
    have := h4 m hm hs (tm_Fit_cg (fun j hj => (hb j hj).symm) fB)
    rw [tm_v0, tm_v0, ← tm_sN_cg (f := tm_mw (tm_c wo)) (g := tm_mw (tm_c wo)) 8 hb (fun _ _ _ => rfl)]
    omega
  · rw [b_0] at hi; cases hi
  · rw [b_0] at hi; cases hi
  · have : i = 0 := by omega
    subst this
    exact Nat.le_refl _
end
end
section
/-! ===== the relation; the plain methods ===== -/
/-- the tables agree, are within their bounds, and a known choice is the best one -/
def i_Rel (k : Nat) (u : SX) (v : SY) : Prop :=
  ∃ (m : Nat) (P us ud kn ch : Int32) (st en wo ga wa re sp th lo : Nat → Int32), u = (nI m, P, us, ud, kn, ch, st, en, wo, ga, wa, re, sp) ∧ v = (nI m, th, st, en, wo, lo) ∧ m ≤ 4 ∧ tm_Ok P st en wo ∧ tm_Th P th ∧ (kn ≠ 0 → tm_Best P st en wo m ch)
theorem tm_el {Q : SX → SY → Prop} {k : Nat} {u : SX} {v : SY} (h : ∀ (m : Nat) (P us ud kn ch : Int32) (st en wo ga wa re sp th lo : Nat → Int32), m ≤ 4 → tm_Ok P st en wo → tm_Th P th → (kn ≠ 0 → tm_Best P st en wo m ch) → Q (nI m, P, us, ud, kn, ch, st, en, wo, ga, wa, re, sp) (nI m, th, st, en, wo, lo)) (I : i_Rel k u v) : Q u v := by
  obtain ⟨m, P, us, ud, kn, ch, st, en, wo, ga, wa, re, sp, th, lo, e1, e2, h1, h2, h3, h4⟩ := I
  rw [e1, e2]
  exact h m P us ud kn ch st en wo ga wa re sp th lo h1 h2 h3 h4
theorem i_up {k : Nat} {u : SX} {v : SY} (h : i_Rel k u v) : i_Rel (k + 4) u v := h
section
variable {T P us ud kn ch : Int32} {st en wo ga wa re sp th lo : Nat → Int32}
variable {m k : Nat}
theorem tm_rel (h1 : m ≤ 4) (h2 : tm_Ok P st en wo) (h3 : tm_Th P th) (h4 : kn ≠ 0 → tm_Best P st en wo m ch) : i_Rel k (nI m, P, us, ud, kn, ch, st, en, wo, ga, wa, re, sp) (nI m, th, st, en, wo, lo) :=
  ⟨m, P, us, ud, kn, ch, st, en, wo, ga, wa, re, sp, th, lo, rfl, rfl, h1, h2, h3, h4⟩
theorem tm_rel0 {x : Int32} (h1 : ¬ x < 0) (h2 : x ≤ 4) (h3 : tm_Ok P st en wo) (h4 : tm_Th P th) : i_Rel k (x, P, us, ud, 0, ch, st, en, wo, ga, wa, re, sp) (x, th, st, en, wo, lo) := by
  obtain ⟨j, hj, rfl⟩ := nI_of2 (n := 4) (by decide) h1 h2
  exact tm_rel hj h3 h4 (fun z => absurd rfl z)
end
theorem tm_ok0 : tm_Ok 0 (fun _ => 0) (fun _ => 0) (fun _ => 0) := by
  refine ⟨fun i hi => ?_, fun j _ => ⟨rfl, rfl, rfl, Nat.zero_le _, Nat.zero_le _, Nat.zero_le _, fun z => ?_⟩⟩
  · rw [b_0] at hi; cases hi
  · rw [b_0] at z; cases z
theorem tm_th0 : tm_Th 0 (fun _ => 0) := fun j _ => ⟨fun _ => b_0 j, fun _ => rfl⟩
theorem i_vc0 (k0 : Int32) : wpX_init (fun u => wpY_init (fun v => i_Rel 1 u v) k0) k0 := by
  by_cases h0 : 0 ≤ k0
  · by_cases h4 : k0 ≤ 4
    · exact br_t h0 (br_t h4 (br_t h0 (br_t h4 (tm_rel0 (Int32.not_lt.mpr h0) h4 tm_ok0 tm_th0))))
    · exact br_t h0 (br_f h4 (br_t h0 (br_f h4 (tm_rel0 (by decide) (by decide) tm_ok0 tm_th0))))
  · exact br_f h0 (br_f h0 (tm_rel0 (by decide) (by decide) tm_ok0 tm_th0))
theorem tm_cu (a : Nat → Int32) {j s i : Nat} (hs : s < 2 ^ 31) : tm_c (upd a j (nI s)) i = if i = j then s else tm_c a i := by
  unfold tm_c
  by_cases z : i = j
  · subst z; rw [pk_us, if_pos rfl, nI_clamp hs]
  · rw [pk_un z, if_neg z]
section
variable {T P us ud kn ch : Int32} {st en wo ga wa re sp th lo : Nat → Int32}
theorem tm_ok_set {j s e w : Nat} (hj : j < 8) (ok : tm_Ok P st en wo) (h1 : s < e) (h2 : e ≤ 16) (h3 : w ≤ 20) : tm_Ok (P ||| ((1 : Int32) <<< (nI j &&& 31))) (upd st j (nI s)) (upd en j (nI e)) (upd wo j (nI w)) := by
  refine ⟨tm_lset hj ok.1, fun i hi => ?_⟩
  obtain ⟨o1, o2, o3, o4, o5, o6, o7⟩ := ok.2 i hi
  rw [tm_cu st (show s < 2 ^ 31 by omega), tm_cu en (show e < 2 ^ 31 by omega), tm_cu wo (show w < 2 ^ 31 by omega), tm_set P (show j < 32 by omega)]
  by_cases z : i = j
  · subst z
    rw [if_pos rfl, if_pos rfl, if_pos rfl, pk_us, pk_us, pk_us]
    exact ⟨rfl, rfl, rfl, by omega, h2, h3, fun _ => h1⟩
  · rw [if_neg z, if_neg z, if_neg z, pk_un z, pk_un z, pk_un z, decide_eq_false z, Bool.or_false]
    exact ⟨o1, o2, o3, o4, o5, o6, o7⟩
theorem tm_th_set {j : Nat} (hj : j < 8) (ht : tm_Th P th) : tm_Th (P ||| ((1 : Int32) <<< (nI j &&& 31))) (upd th j (vp_nar .boolean 1)) := by
  intro i hi
  rw [tm_set P (show j < 32 by omega)]
  by_cases z : i = j
  · subst z
    rw [pk_us, decide_eq_true rfl, Bool.or_true]
    exact ⟨fun q => absurd (show (1 : Int32) = 0 from q) (by decide), fun q => by cases q⟩
  · rw [pk_un z, decide_eq_false z, Bool.or_false]
    exact ht i hi
theorem tm_brL {x1 x2 x3 : Int32} (ht : tm_Th P th) : ∀ dd j, j + dd = 8 →
    (∃ q, q < 8 ∧ (∀ post : Int32 → SX → Prop, post (nI q) (T, P ||| ((1 : Int32) <<< (nI q &&& 31)), us, ud, 0, ch, upd st q (vp_nar .byte x1.toInt8.toInt32), upd en q (vp_nar .byte x2.toInt8.toInt32), upd wo q (vp_nar .byte x3.toInt8.toInt32), ga, wa, re, sp) → wX_bring_31 post x1 x2 x3 T P us ud kn ch st en wo ga wa re sp (dd + 1) (nI j)) ∧
      (∀ post : Int32 → SY → Prop, post (nI q) (T, upd th q (vp_nar .boolean 1), upd st q x1, upd en q x2, upd wo q x3, lo) → wY_bring_31 post x1 x2 x3 T th st en wo lo (dd + 1) (nI j))) ∨
    ((∀ post : Int32 → SX → Prop, post (-2) (T, P, us, ud, kn, ch, st, en, wo, ga, wa, re, sp) → wX_bring_31 post x1 x2 x3 T P us ud kn ch st en wo ga wa re sp (dd + 1) (nI j)) ∧ (∀ post : Int32 → SY → Prop, post (-2) (T, th, st, en, wo, lo) → wY_bring_31 post x1 x2 x3 T th st en wo lo (dd + 1) (nI j))) := by
  intro dd
  induction dd with
  | zero =>
    intro j hj
    have : j = 8 := by omega
    subst this
    have h8 := nI_le (a := 8) (b := 8) (Nat.le_refl _) (by decide)
    exact Or.inr ⟨fun post h => br_t h8 h, fun post h => br_t h8 h⟩
  | succ dd ih =>
    intro j hj
    have n8 : ¬ nI 8 ≤ nI j := nI_ge (b := 8) (by omega) (by decide)
    have ij : vp_in (nI j) 8 := vp_in_nI (by omega) (by decide)
    have cj : (nI j).toNatClampNeg = j := nI_clamp (by omega)
    cases z : bt P j
    · refine Or.inl ⟨j, by omega, fun post h => br_f n8 (tm_has (by omega) ?_), fun post h => br_f n8 ⟨ij, ?_⟩⟩
      · rw [z, if_neg (by decide), cj]
        exact br_t rfl (nm_e ⟨ij, nm_e ⟨ij, nm_e ⟨ij, nm_e h⟩⟩⟩)
      · rw [cj]
        exact br_t ((ht j (by omega)).mpr z) ⟨ij, nm_e ⟨ij, nm_e ⟨ij, nm_e ⟨ij, nm_e h⟩⟩⟩⟩
    · have hX : ∀ post : Int32 → SX → Prop, wX_bring_31 post x1 x2 x3 T P us ud kn ch st en wo ga wa re sp (dd + 1) (nI (j + 1)) → wX_bring_31 post x1 x2 x3 T P us ud kn ch st en wo ga wa re sp (dd + 1 + 1) (nI j) := by
        intro post h
        refine br_f n8 (tm_has (by omega) ?_)
        rw [z, if_pos rfl]
        exact br_f (by decide) (nm_r (nI_1 j) h)
      have hY : ∀ post : Int32 → SY → Prop, wY_bring_31 post x1 x2 x3 T th st en wo lo (dd + 1) (nI (j + 1)) → wY_bring_31 post x1 x2 x3 T th st en wo lo (dd + 1 + 1) (nI j) := by
        intro post h
        refine br_f n8 ⟨ij, ?_⟩
        rw [cj]
        refine br_f (fun q => ?_) (nm_r (nI_1 j) h)
        rw [(ht j (by omega)).mp q] at z
        cases z
      rcases ih (j + 1) (by omega) with ⟨q, hq, a, b⟩ | ⟨a, b⟩
      · exact Or.inl ⟨q, hq, fun post h => hX post (a post h), fun post h => hY post (b post h)⟩
      · exact Or.inr ⟨fun post h => hX post (a post h), fun post h => hY post (b post h)⟩
end
theorem i_vc_bring {k : Nat} {u : SX} {v : SY} (I : i_Rel k u v) (hk : k + 4 ≤ 2049) (v1 : Int32) (v2 : Int32) (v3 : Int32) : wpX_bring (fun r u' => wpY_bring (fun r' v' => r' = r ∧ i_Rel (k + 4) u' v') v v1 v2 v3) u v1 v2 v3 := by
  refine tm_el (Q := fun u v => wpX_bring (fun r u' => wpY_bring (fun r' v' => r' = r ∧ i_Rel (k + 4) u' v') v v1 v2 v3) u v1 v2 v3) ?_ I
  intro m P us ud kn ch st en wo ga wa re sp th lo hm ok ht hb
  by_cases c1 : v1 < 0
  · exact br_t c1 (br_t c1 ⟨rfl, tm_rel hm ok ht hb⟩)
  by_cases c2 : 16 < v2
  · refine br_f c1 (br_t c2 (br_f c1 (br_c (fun _ => ?_) (fun _ => br_t c2 ?_))))
    · exact ⟨rfl, tm_rel hm ok ht hb⟩
    · exact ⟨rfl, tm_rel hm ok ht hb⟩
  by_cases c3 : v2 ≤ v1
  · exact br_f c1 (br_f c2 (br_t c3 (br_f c1 (br_t c3 ⟨rfl, tm_rel hm ok ht hb⟩))))
  by_cases c4 : v3 < 1
  · exact br_f c1 (br_f c2 (br_f c3 (br_t c4 (br_f c1 (br_f c3 (br_f c2 (br_t c4 ⟨rfl, tm_rel hm ok ht hb⟩)))))))
  by_cases c5 : v3 ≤ 20
  · refine br_f c1 (br_f c2 (br_f c3 (br_f c4 (br_t c5 ⟨9, ?_⟩))))
    rcases tm_brL (T := nI m) (us := us) (ud := ud) (kn := kn) (ch := ch) (st := st) (en := en) (wo := wo) (ga := ga) (wa := wa) (re := re) (sp := sp) (lo := lo) (x1 := v1) (x2 := v2) (x3 := v3) ht 8 0 rfl with ⟨q, hq, a, b⟩ | ⟨a, b⟩
    · refine a _ (br_f c1 (br_f c3 (br_f c2 (br_f c4 (br_t c5 ⟨9, b _ ?_⟩)))))
      refine ⟨rfl, ?_⟩
      have c2' : v2 ≤ 16 := Int32.not_lt.mp c2
      have c6 : ¬ v2 < 0 := fun z => c3 (Int32.le_of_lt (Int32.lt_of_lt_of_le z (Int32.not_lt.mp c1)))
      have c7 : ¬ v3 < 0 := fun z => c4 (Int32.lt_trans z (by decide))
      obtain ⟨s, hs, rfl⟩ := nI_of c1
      obtain ⟨e, he, rfl⟩ := nI_of2 (n := 16) (by decide) c6 c2'
      obtain ⟨w, hw, rfl⟩ := nI_of2 (n := 20) (by decide) c7 c5
      have hse : s < e := by
        rw [nI_leI (by omega) (by omega)] at c3
        omega
      rw [tm_st8 (z := nI s) (by rw [nI_toInt hs]; omega) (by rw [nI_toInt hs]; omega), tm_st8 (z := nI e) (by rw [nI_toInt (by omega)]; omega) (by rw [nI_toInt (by omega)]; omega), tm_st8 (z := nI w) (by rw [nI_toInt (by omega)]; omega) (by rw [nI_toInt (by omega)]; omega)]
      exact tm_rel hm (tm_ok_set hq ok hse he hw) (tm_th_set hq ht) (fun z => absurd rfl z)
    · exact a _ (br_f c1 (br_f c3 (br_f c2 (br_f c4 (br_t c5 ⟨9, b _ ⟨rfl, tm_rel hm ok ht hb⟩⟩)))))
  · exact br_f c1 (br_f c2 (br_f c3 (br_f c4 (br_f c5 (br_f c1 (br_f c3 (br_f c2 (br_f c4 (br_f c5 ⟨rfl, tm_rel hm ok ht hb⟩)))))))))
section
variable {T P us ud kn ch : Int32} {st en wo ga wa re sp th lo : Nat → Int32}
theorem tm_is {post : Int32 → Prop} {j : Nat} (hj : j < 8) (ht : tm_Th P th) (h : post (if bt P j = true then 1 else 0)) : wpY_is post (T, th, st, en, wo, lo) (nI j) := by
  refine br_f (nI_pos (by omega)) (br_f (nI_ge (b := 8) hj (by decide)) ⟨vp_in_nI hj (by decide), ?_⟩)
  rw [nI_clamp (show j < 2 ^ 31 by omega)]
  refine br_c (fun z => ?_) (fun z => ?_)
  · rw [(ht j hj).mp z] at h
    exact h
  · rw [if_pos (by cases e : bt P j; exact absurd ((ht j hj).mpr e) z; rfl)] at h
    exact h
theorem tm_is_out {post : Int32 → Prop} {p0 : Int32} (hp : p0 < 0 ∨ nI 8 ≤ p0) (h : post 0) : wpY_is post (T, th, st, en, wo, lo) p0 := by
  by_cases z : p0 < 0
  · exact br_t z h
  · exact br_f z (br_t (hp.resolve_left z) h)
theorem tm_ok_clr {j : Nat} (hj : j < 8) (ok : tm_Ok P st en wo) : tm_Ok (P &&& (((1 : Int32) <<< (nI j &&& 31)) ^^^ (-1))) st en wo := by
  refine ⟨tm_lclr hj ok.1, fun i hi => ?_⟩
  obtain ⟨o1, o2, o3, o4, o5, o6, o7⟩ := ok.2 i hi
  refine ⟨o1, o2, o3, o4, o5, o6, fun z => o7 ?_⟩
  rw [tm_clr P (by omega)] at z
  revert z
  cases bt P i
  · intro h; cases h
  · intro _; rfl
theorem tm_th_clr {j : Nat} (hj : j < 8) (ht : tm_Th P th) : tm_Th (P &&& (((1 : Int32) <<< (nI j &&& 31)) ^^^ (-1))) (upd th j (vp_nar .boolean 0)) := by
  intro i hi
  rw [tm_clr P (show j < 32 by omega)]
  by_cases z : i = j
  · subst z
    rw [pk_us, decide_eq_true rfl]
    exact ⟨fun _ => by cases bt P i <;> rfl, fun _ => rfl⟩
  · rw [pk_un z, decide_eq_false z]
    have := ht i hi
    revert this
    cases bt P i <;> exact fun h => h
theorem tm_ok_val {j w : Nat} (hj : j < 8) (ok : tm_Ok P st en wo) (h3 : w ≤ 20) : tm_Ok P st en (upd wo j (nI w)) := by
  refine ⟨ok.1, fun i hi => ?_⟩
  obtain ⟨o1, o2, o3, o4, o5, o6, o7⟩ := ok.2 i hi
  rw [tm_cu wo (show w < 2 ^ 31 by omega)]
  by_cases z : i = j
  · subst z
    rw [if_pos rfl, pk_us]
    exact ⟨o1, o2, rfl, o4, o5, h3, o7⟩
  · rw [if_neg z, pk_un z]
    exact ⟨o1, o2, o3, o4, o5, o6, o7⟩
end
theorem i_vc_take {k : Nat} {u : SX} {v : SY} (I : i_Rel k u v) (hk : k + 4 ≤ 2049) (v1 : Int32) : wpX_take (fun r u' => wpY_take (fun r' v' => r' = r ∧ i_Rel (k + 4) u' v') v v1) u v1 := by
  refine tm_el (Q := fun u v => wpX_take (fun r u' => wpY_take (fun r' v' => r' = r ∧ i_Rel (k + 4) u' v') v v1) u v1) ?_ I
  intro m P us ud kn ch st en wo ga wa re sp th lo hm ok ht hb
  unfold wpX_take wpY_take
  dsimp only
  rcases pk_ix v1 (n := 8) (by decide) with h | h | ⟨j, hj, rfl⟩
  · exact tm_has_out (Or.inl h) (br_t rfl (tm_is_out (Or.inl h) (br_t rfl ⟨rfl, tm_rel hm ok ht hb⟩)))
  · exact tm_has_out (Or.inr h) (br_t rfl (tm_is_out (Or.inr h) (br_t rfl ⟨rfl, tm_rel hm ok ht hb⟩)))
  · refine tm_has hj ?_
    cases z : bt P j
    · refine br_t rfl (tm_is hj ht ?_)
      rw [z]
      exact br_t rfl ⟨rfl, tm_rel hm ok ht hb⟩
    · refine br_f (by decide) (nm_e (tm_is hj ht ?_))
      rw [z, nI_clamp (show j < 2 ^ 31 by omega)]
      exact br_f (by decide) ⟨vp_in_nI hj (by decide), nm_e ⟨rfl, tm_rel hm (tm_ok_clr hj ok) (tm_th_clr hj ht) (fun q => absurd rfl q)⟩⟩
theorem i_vc_revalue {k : Nat} {u : SX} {v : SY} (I : i_Rel k u v) (hk : k + 4 ≤ 2049) (v1 : Int32) (v2 : Int32) : wpX_revalue (fun r u' => wpY_revalue (fun r' v' => r' = r ∧ i_Rel (k + 4) u' v') v v1 v2) u v1 v2 := by
  refine tm_el (Q := fun u v => wpX_revalue (fun r u' => wpY_revalue (fun r' v' => r' = r ∧ i_Rel (k + 4) u' v') v v1 v2) u v1 v2) ?_ I
  intro m P us ud kn ch st en wo ga wa re sp th lo hm ok ht hb
  unfold wpX_revalue wpY_revalue
  dsimp only
  rcases pk_ix v1 (n := 8) (by decide) with h | h | ⟨j, hj, rfl⟩
  · exact tm_has_out (Or.inl h) (br_t rfl (tm_is_out (Or.inl h) (br_t rfl ⟨rfl, tm_rel hm ok ht hb⟩)))
  · exact tm_has_out (Or.inr h) (br_t rfl (tm_is_out (Or.inr h) (br_t rfl ⟨rfl, tm_rel hm ok ht hb⟩)))
  · refine tm_has hj ?_
    cases z : bt P j
    · refine br_t rfl (tm_is hj ht ?_)
      rw [z]
      exact br_t rfl ⟨rfl, tm_rel hm ok ht hb⟩
    · refine br_f (by decide) ?_
      by_cases c4 : v2 < 1
      · refine br_t c4 (tm_is hj ht ?_)
        rw [z]
        exact br_f (by decide) (br_t c4 ⟨rfl, tm_rel hm ok ht hb⟩)
      by_cases c5 : v2 ≤ 20
      · have c7 : ¬ v2 < 0 := fun z => c4 (Int32.lt_trans z (by decide))
        obtain ⟨w, hw, rfl⟩ := nI_of2 (n := 20) (by decide) c7 c5
        refine br_f c4 (br_t c5 ⟨vp_in_nI hj (by decide), nm_e (tm_is hj ht ?_)⟩)
        rw [z, nI_clamp (show j < 2 ^ 31 by omega), tm_st8 (z := nI w) (by rw [nI_toInt (by omega)]; omega) (by rw [nI_toInt (by omega)]; omega)]
        exact br_f (by decide) (br_f c4 (br_t c5 ⟨vp_in_nI hj (by decide), nm_e ⟨rfl, tm_rel hm (tm_ok_val hj ok hw) ht (fun q => absurd rfl q)⟩⟩))
      · refine br_f c4 (br_f c5 (tm_is hj ht ?_))
        rw [z]
        exact br_f (by decide) (br_f c4 (br_f c5 ⟨rfl, tm_rel hm ok ht hb⟩))
theorem i_vc_setTracks {k : Nat} {u : SX} {v : SY} (I : i_Rel k u v) (hk : k + 4 ≤ 2049) (v1 : Int32) : wpX_setTracks (fun r u' => wpY_setTracks (fun r' v' => r' = r ∧ i_Rel (k + 4) u' v') v v1) u v1 := by
  refine tm_el (Q := fun u v => wpX_setTracks (fun r u' => wpY_setTracks (fun r' v' => r' = r ∧ i_Rel (k + 4) u' v') v v1) u v1) ?_ I
  intro m P us ud kn ch st en wo ga wa re sp th lo hm ok ht hb
  by_cases c1 : v1 < 0
  · exact br_t c1 (br_t c1 ⟨rfl, tm_rel hm ok ht hb⟩)
  by_cases c2 : v1 ≤ 4
  · exact br_f c1 (br_t c2 (br_f c1 (br_t c2 ⟨rfl, tm_rel0 c1 c2 ok ht⟩)))
  · exact br_f c1 (br_f c2 (br_f c1 (br_f c2 ⟨rfl, tm_rel hm ok ht hb⟩)))
theorem i_vc_tracks {k : Nat} {u : SX} {v : SY} (I : i_Rel k u v) (hk : k + 4 ≤ 2049) : wpX_tracks (fun r => wpY_tracks (fun r' => r' = r ∧ i_Rel (k + 4) u v) v) u := by
  refine tm_el (Q := fun u v => wpX_tracks (fun r => wpY_tracks (fun r' => r' = r ∧ i_Rel (k + 4) u v) v) u) ?_ I
  intro m P us ud kn ch st en wo ga wa re sp th lo hm ok ht hb
  exact ⟨rfl, tm_rel hm ok ht hb⟩
theorem i_vc_jobs {k : Nat} {u : SX} {v : SY} (I : i_Rel k u v) (hk : k + 4 ≤ 2049) : wpX_jobs (fun r => wpY_jobs (fun r' => r' = r ∧ i_Rel (k + 4) u v) v) u := by
  refine tm_el (Q := fun u v => wpX_jobs (fun r => wpY_jobs (fun r' => r' = r ∧ i_Rel (k + 4) u v) v) u) ?_ I
  intro m P us ud kn ch st en wo ga wa re sp th lo hm ok ht hb
  exact tm_jb ok.1 ht ⟨rfl, tm_rel hm ok ht hb⟩
end
section
/-! ===== chosen, total, fits, tracksFor, gain, loss, busy ===== -/
section
variable {T P us ud kn ch : Int32} {st en wo ga wa re sp th lo : Nat → Int32}
theorem tm_total {post : Int32 → SX → Prop} {k : Nat} (hk : k ≤ 4) (ok : tm_Ok P st en wo) (hb : kn ≠ 0 → tm_Best P st en wo k ch)
    (K : ∀ us' ud' ch' kn' ga' wa' re' sp', tm_Best P st en wo k ch' → post (nI (tm_sN (tm_c wo) (bt ch') 8)) (nI k, P, us', ud', kn', ch', st, en, wo, ga', wa', re', sp')) : wpX_total post (nI k, P, us, ud, kn, ch, st, en, wo, ga, wa, re, sp) := by
  unfold wpX_total
  dsimp only
  refine tm_choose hk ok hb ?_
  intro us' ud' ch' kn' ga' wa' re' sp' B
  dsimp only
  have b := tm_mw_b ok (bt ch')
  refine tm_ms (fun j hj => (ok.2 j hj).2.2.1) (tm_plain (by omega) ?_)
  rw [tm_mw_div]
  exact K us' ud' ch' kn' ga' wa' re' sp' B
theorem tm_chY {post : Int32 → SY → Prop} {k : Nat} (hk : k ≤ 4) (ok : tm_Ok P st en wo) (ht : tm_Th P th)
    (K : ∀ A lo', tm_Best P st en wo k A → post A (nI k, th, st, en, wo, lo')) : wpY_chosen post (nI k, th, st, en, wo, lo) := by
  unfold wpY_chosen
  dsimp only
  refine tm_work ok ht ?_
  intro lo' hlo
  dsimp only
  exact tm_bs (by omega) ok ht hlo (fun A B => K A lo' B)
end
theorem i_vc_chosen {k : Nat} {u : SX} {v : SY} (I : i_Rel k u v) (hk : k + 4 ≤ 2049) : wpX_chosen (fun r u' => wpY_chosen (fun r' v' => r' = r ∧ i_Rel (k + 4) u' v') v) u := by
  refine tm_el (Q := fun u v => wpX_chosen (fun r u' => wpY_chosen (fun r' v' => r' = r ∧ i_Rel (k + 4) u' v') v) u) ?_ I
  intro m P us ud kn ch st en wo ga wa re sp th lo hm ok ht hb
  unfold wpX_chosen
  dsimp only
  refine tm_choose hm ok hb ?_
  intro us' ud' ch' kn' ga' wa' re' sp' B
  dsimp only
  refine tm_chY hm ok ht ?_
  intro A lo' B'
  exact ⟨tm_Best_uq B' B, tm_rel hm ok ht (fun _ => B)⟩
theorem i_vc_total {k : Nat} {u : SX} {v : SY} (I : i_Rel k u v) (hk : k + 4 ≤ 2049) : wpX_total (fun r u' => wpY_total (fun r' v' => r' = r ∧ i_Rel (k + 4) u' v') v) u := by
  refine tm_el (Q := fun u v => wpX_total (fun r u' => wpY_total (fun r' v' => r' = r ∧ i_Rel (k + 4) u' v') v) u) ?_ I
  intro m P us ud kn ch st en wo ga wa re sp th lo hm ok ht hb
  refine tm_total hm ok hb ?_
  intro us' ud' ch' kn' ga' wa' re' sp' B
  unfold wpY_total
  dsimp only
  refine tm_chY hm ok ht ?_
  intro A lo' B'
  dsimp only
  rw [tm_Best_uq B' B]
  exact tm_sm (fun j hj => (ok.2 j hj).2.2.1) ⟨rfl, tm_rel hm ok ht (fun _ => B)⟩
theorem i_vc_fits {k : Nat} {u : SX} {v : SY} (I : i_Rel k u v) (hk : k + 4 ≤ 2049) (v1 : Int32) : wpX_fits (fun r => wpY_fits (fun r' v' => r' = r ∧ i_Rel (k + 4) u v') v v1) u v1 := by
  refine tm_el (Q := fun u v => wpX_fits (fun r => wpY_fits (fun r' v' => r' = r ∧ i_Rel (k + 4) u v') v v1) u v1) ?_ I
  intro m P us ud kn ch st en wo ga wa re sp th lo hm ok ht hb
  unfold wpX_fits wpY_fits
  dsimp only
  refine br_c (fun z => ?_) (fun z => ?_)
  · have hs := tm_sub0.mp z
    obtain ⟨q, hq, rfl⟩ := tm_low_ex (x := v1) (fun i hi => ok.1 i (hs i hi))
    have b1 := tm_gc_8 (tm_c st) (tm_c en) (bt (nI q)) 16
    have e1 : nI q &&& 255 = nI q := by
      rw [pk_andN (by omega) 8 (by decide)]
      exact congrArg nI (Nat.mod_eq_of_lt hq)
    refine tm_gcX ok (pk_lt m (tm_gc (tm_c st) (tm_c en) (bt (nI q)) 16) (fun l => ?_) (fun l => ?_))
    · refine tm_work ok ht ?_
      intro lo' hlo
      dsimp only
      refine tm_jb ok.1 ht (br_t z ?_)
      rw [e1, nI_clamp (show q < 2 ^ 31 by omega), hlo q hq hs]
      exact ⟨vp_in_nI hq (by decide), br_t (nI_lt l (by omega)) ⟨rfl, tm_rel hm ok ht hb⟩⟩
    · refine tm_work ok ht ?_
      intro lo' hlo
      dsimp only
      refine tm_jb ok.1 ht (br_t z ?_)
      rw [e1, nI_clamp (show q < 2 ^ 31 by omega), hlo q hq hs]
      exact ⟨vp_in_nI hq (by decide), br_f (nI_nlt l (by omega)) ⟨rfl, tm_rel hm ok ht hb⟩⟩
  · refine tm_work ok ht ?_
    intro lo' hlo
    dsimp only
    exact tm_jb ok.1 ht (br_f z ⟨rfl, tm_rel hm ok ht hb⟩)
theorem i_vc_tracksFor {k : Nat} {u : SX} {v : SY} (I : i_Rel k u v) (hk : k + 4 ≤ 2049) (v1 : Int32) : wpX_tracksFor (fun r => wpY_tracksFor (fun r' v' => r' = r ∧ i_Rel (k + 4) u v') v v1) u v1 := by
  refine tm_el (Q := fun u v => wpX_tracksFor (fun r => wpY_tracksFor (fun r' v' => r' = r ∧ i_Rel (k + 4) u v') v v1) u v1) ?_ I
  intro m P us ud kn ch st en wo ga wa re sp th lo hm ok ht hb
  unfold wpX_tracksFor wpY_tracksFor
  dsimp only
  have hs : ∀ i, bt (v1 &&& P) i = true → bt P i = true := by
    intro i hi
    rw [b_and] at hi
    revert hi
    cases bt v1 i <;> cases bt P i <;> intro h <;> first | rfl | cases h
  obtain ⟨q, hq, e⟩ := tm_low_ex (x := v1 &&& P) (fun i hi => ok.1 i (hs i hi))
  rw [e] at hs
  refine tm_gcX ok (tm_work ok ht ?_)
  intro lo' hlo
  dsimp only
  refine tm_jb ok.1 ht ?_
  rw [e, nI_clamp (show q < 2 ^ 31 by omega), hlo q hq hs]
  exact ⟨vp_in_nI hq (by decide), rfl, tm_rel hm ok ht hb⟩
theorem i_vc_gain {k : Nat} {u : SX} {v : SY} (I : i_Rel k u v) (hk : k + 4 ≤ 2049) : wpX_gain (fun r u' => wpY_gain (fun r' v' => r' = r ∧ i_Rel (k + 4) u' v') v) u := by
  refine tm_el (Q := fun u v => wpX_gain (fun r u' => wpY_gain (fun r' v' => r' = r ∧ i_Rel (k + 4) u' v') v) u) ?_ I
  intro m P us ud kn ch st en wo ga wa re sp th lo hm ok ht hb
  unfold wpX_gain
  dsimp only
  refine tm_total hm ok hb ?_
  intro us' ud' ch' kn' ga' wa' re' sp' B
  dsimp only
  rw [nI_1 m]
  refine tm_totF (by omega) ok ?_
  intro us2 ud2 ga2 wa2 re2 sp2 B2
  dsimp only
  unfold wpY_gain
  dsimp only
  refine tm_work ok ht ?_
  intro lo' hlo
  dsimp only
  rw [nI_1 m]
  refine tm_bs (by omega) ok ht hlo (fun A BA => tm_bs (by omega) ok ht hlo (fun A2 BA2 => ?_))
  rw [tm_Best_uq BA B, tm_Best_uq BA2 B2]
  exact tm_sm (fun j hj => (ok.2 j hj).2.2.1) (tm_sm (fun j hj => (ok.2 j hj).2.2.1) ⟨rfl, tm_rel hm ok ht (fun _ => B)⟩)
theorem i_vc_loss {k : Nat} {u : SX} {v : SY} (I : i_Rel k u v) (hk : k + 4 ≤ 2049) : wpX_loss (fun r u' => wpY_loss (fun r' v' => r' = r ∧ i_Rel (k + 4) u' v') v) u := by
  refine tm_el (Q := fun u v => wpX_loss (fun r u' => wpY_loss (fun r' v' => r' = r ∧ i_Rel (k + 4) u' v') v) u) ?_ I
  intro m P us ud kn ch st en wo ga wa re sp th lo hm ok ht hb
  unfold wpX_loss wpY_loss
  dsimp only
  refine br_c (fun z => br_t z ⟨rfl, tm_rel hm ok ht hb⟩) (fun z => ?_)
  cases m with
  | zero => exact absurd rfl z
  | succ q =>
    refine tm_total hm ok hb ?_
    intro us' ud' ch' kn' ga' wa' re' sp' B
    dsimp only
    rw [nI_pred q]
    refine tm_totF (by omega) ok ?_
    intro us2 ud2 ga2 wa2 re2 sp2 B2
    dsimp only
    refine br_f z (tm_work ok ht ?_)
    intro lo' hlo
    dsimp only
    rw [nI_pred q]
    refine tm_bs (by omega) ok ht hlo (fun A BA => tm_bs (by omega) ok ht hlo (fun A2 BA2 => ?_))
    rw [tm_Best_uq BA B, tm_Best_uq BA2 B2]
    exact tm_sm (fun j hj => (ok.2 j hj).2.2.1) (tm_sm (fun j hj => (ok.2 j hj).2.2.1) ⟨rfl, tm_rel hm ok ht (fun _ => B)⟩)
theorem i_vc_busy {k : Nat} {u : SX} {v : SY} (I : i_Rel k u v) (hk : k + 4 ≤ 2049) (v1 : Int32) : wpX_busy (fun r u' => wpY_busy (fun r' v' => r' = r ∧ i_Rel (k + 4) u' v') v v1) u v1 := by
  refine tm_el (Q := fun u v => wpX_busy (fun r u' => wpY_busy (fun r' v' => r' = r ∧ i_Rel (k + 4) u' v') v v1) u v1) ?_ I
  intro m P us ud kn ch st en wo ga wa re sp th lo hm ok ht hb
  unfold wpX_busy wpY_busy
  dsimp only
  rcases pk_ix v1 (n := 16) (by decide) with h | h | ⟨t, h16, rfl⟩
  · refine br_t h (tm_chY hm ok ht ?_)
    intro A lo' B'
    exact br_t h ⟨rfl, tm_rel hm ok ht hb⟩
  · have h0 : ¬ v1 < 0 := Int32.not_lt.mpr (Int32.le_trans (show (0 : Int32) ≤ nI 16 by decide) h)
    have h1 : ¬ v1 < 16 := Int32.not_lt.mpr h
    have h2 : ¬ v1 ≤ 15 := fun z => absurd (Int32.le_trans h z) (by decide)
    refine br_f h0 (br_f h1 (tm_chY hm ok ht ?_))
    intro A lo' B'
    exact br_f h0 (br_f h2 ⟨rfl, tm_rel hm ok ht hb⟩)
  · have h0 : ¬ nI t < 0 := nI_pos (by omega)
    refine br_f h0 (br_t (nI_lt (b := 16) h16 (by decide)) (tm_choose hm ok hb ?_))
    intro us' ud' ch' kn' ga' wa' re' sp' B
    dsimp only
    refine tm_crX h16 ok (tm_chY hm ok ht ?_)
    intro A lo' B'
    refine br_f h0 (br_t (nI_le (b := 15) (by omega) (by decide)) ?_)
    rw [tm_Best_uq B' B]
    exact tm_at h16 ok ⟨rfl, tm_rel hm ok ht (fun _ => B)⟩
end
section
/-! ===== totalWith ===== -/
theorem tm_ex {x : Int32} (h : ¬ x = 0) : ∃ i, bt x i = true := by
  refine Classical.byContradiction (fun no => h (tm_eq0.mpr (fun i => ?_)))
  cases z : bt x i
  · rfl
  · exact absurd ⟨i, z⟩ no
theorem tm_and_l {x y : Int32} {i : Nat} (h : bt (x &&& y) i = true) : bt x i = true := by
  rw [b_and] at h
  revert h
  cases bt x i
  · intro h; cases h
  · intro _; rfl
theorem tm_and_r {x y : Int32} {i : Nat} (h : bt (x &&& y) i = true) : bt y i = true := by
  rw [b_and] at h
  revert h
  cases bt x i <;> cases bt y i <;> intro h <;> first | rfl | cases h
section
variable {T P us ud kn ch : Int32} {st en wo ga wa re sp th lo : Nat → Int32}
theorem tm_tw_iff {k m : Nat} {p0 p1 : Int32} (hm : m < 256) (hP : tm_low P) : tm_Adm P st en k (p0 &&& P) p1 (bt (nI m)) ↔ ((nI m &&& (P ^^^ (-1))) = 0 ∧ tm_gc (tm_c st) (tm_c en) (bt (nI m)) 16 ≤ k ∧ ((p0 &&& P) &&& (nI m ^^^ (-1))) = 0 ∧ (p1 &&& nI m) = 0) := by
  have l := tm_nlow hm
  rw [tm_gc_fit, tm_sub0, tm_sub0, tm_dis0]
  constructor
  · intro h
    obtain ⟨a, b, c, d⟩ := h
    refine ⟨fun i hi => a i (l i hi) hi, c, fun i hi => d i (hP i (tm_and_r hi)) hi, fun i hi => ?_⟩
    cases z : bt (nI m) i
    · rfl
    · rw [b i (l i z) z] at hi; cases hi
  · intro h
    obtain ⟨a, b, c, d⟩ := h
    refine ⟨fun i _ hi => a i hi, fun i _ hi => ?_, b, fun i _ hi => c i hi⟩
    cases z : bt p1 i
    · rfl
    · rw [d i z] at hi; cases hi
theorem tm_tw15 {post : Int32 → SY → Prop} {k : Nat} {p0 p1 : Int32} (hk : k ≤ 4) (ok : tm_Ok P st en wo) (hlo : tm_Lo P st en lo)
    (K : ∀ r, ((r = -1 ∧ ∀ i, i < 256 → ¬ tm_Adm P st en k (p0 &&& P) p1 (bt (nI i))) ∨ (∃ q, q < 256 ∧ tm_Adm P st en k (p0 &&& P) p1 (bt (nI q)) ∧ r = nI (tm_sN (tm_c wo) (bt (nI q)) 8) ∧ ∀ i, i < 256 → tm_Adm P st en k (p0 &&& P) p1 (bt (nI i)) → tm_sN (tm_c wo) (bt (nI i)) 8 ≤ tm_sN (tm_c wo) (bt (nI q)) 8)) → post r (nI k, th, st, en, wo, lo)) :
    ∀ dd m r, m + dd = 256 → ((r = -1 ∧ ∀ i, i < m → ¬ tm_Adm P st en k (p0 &&& P) p1 (bt (nI i))) ∨ (∃ q, q < m ∧ tm_Adm P st en k (p0 &&& P) p1 (bt (nI q)) ∧ r = nI (tm_sN (tm_c wo) (bt (nI q)) 8) ∧ ∀ i, i < m → tm_Adm P st en k (p0 &&& P) p1 (bt (nI i)) → tm_sN (tm_c wo) (bt (nI i)) 8 ≤ tm_sN (tm_c wo) (bt (nI q)) 8)) → wY_totalWith_15 post p0 p1 P (nI k) th st en wo lo (dd + 1) r (nI m) := by
  intro dd
  induction dd with
  | zero =>
    intro m r hm h
    have : m = 256 := by omega
    subst this
    exact br_t (nI_le (a := 256) (b := 256) (Nat.le_refl _) (by decide)) (K r h)
  | succ dd ih =>
    intro m r hm h
    have iff := tm_tw_iff (P := P) (st := st) (en := en) (k := k) (m := m) (p0 := p0) (p1 := p1) (by omega) ok.1
    have hno : ¬ tm_Adm P st en k (p0 &&& P) p1 (bt (nI m)) → wY_totalWith_15 post p0 p1 P (nI k) th st en wo lo (dd + 1) r (nI (m + 1)) := by
      intro no
      refine ih (m + 1) r (by omega) ?_
      rcases h with ⟨h1, h2⟩ | ⟨q, hq, h1, h2, h3⟩
      · refine Or.inl ⟨h1, fun i hi => ?_⟩
        by_cases e : i = m
        · subst e; exact no
        · exact h2 i (by omega)
      · refine Or.inr ⟨q, by omega, h1, h2, fun i hi g => ?_⟩
        by_cases e : i = m
        · subst e; exact absurd g no
        · exact h3 i (by omega) g
    refine br_f (nI_ge (b := 256) (by omega) (by decide)) (br_c (fun z => ?_) (fun z => ?_))
    · have hs := tm_sub0.mp z
      have b1 := tm_gc_8 (tm_c st) (tm_c en) (bt (nI m)) 16
      refine ⟨vp_in_nI (by omega) (by decide), ?_⟩
      rw [nI_clamp (show m < 2 ^ 31 by omega), hlo m (by omega) hs]
      by_cases q2 : tm_gc (tm_c st) (tm_c en) (bt (nI m)) 16 ≤ k
      · refine br_f (nI_nlt q2 (by omega)) (br_c (fun z3 => br_c (fun z4 => ?_) (fun z4 => ?_)) (fun z3 => ?_))
        · have ad := iff.mpr ⟨z, q2, z3, z4⟩
          have lm := tm_sN_le (bt (nI m)) 8 (f := tm_c wo) (C := 20) (fun j hj => (ok.2 j hj).2.2.2.2.2.1)
          refine tm_sm (fun j hj => (ok.2 j hj).2.2.1) ?_
          rcases h with ⟨h1, h2⟩ | ⟨q, hq, h1, h2, h3⟩
          · subst h1
            refine br_f (fun l => ?_) (nm_r (nI_1 m) (ih (m + 1) _ (by omega) (Or.inr ⟨m, by omega, ad, rfl, fun i hi g => ?_⟩)))
            · exact absurd (Int32.le_trans (nI_pos' (by omega)) l) (by decide)
            · by_cases e : i = m
              · subst e; exact Nat.le_refl _
              · exact absurd g (h2 i (by omega))
          · subst h2
            have lq := tm_sN_le (bt (nI q)) 8 (f := tm_c wo) (C := 20) (fun j hj => (ok.2 j hj).2.2.2.2.2.1)
            by_cases l : tm_sN (tm_c wo) (bt (nI m)) 8 ≤ tm_sN (tm_c wo) (bt (nI q)) 8
            · refine br_t (nI_le l (by omega)) (nm_r (nI_1 m) (ih (m + 1) _ (by omega) (Or.inr ⟨q, by omega, h1, rfl, fun i hi g => ?_⟩)))
              by_cases e : i = m
              · subst e; exact l
              · exact h3 i (by omega) g
            · refine br_f (nI_ge (Nat.lt_of_not_le l) (by omega)) (nm_r (nI_1 m) (ih (m + 1) _ (by omega) (Or.inr ⟨m, by omega, ad, rfl, fun i hi g => ?_⟩)))
              by_cases e : i = m
              · subst e; exact Nat.le_refl _
              · have := h3 i (by omega) g
                omega
        · exact nm_r (nI_1 m) (hno (fun ad => z4 (iff.mp ad).2.2.2))
        · exact nm_r (nI_1 m) (hno (fun ad => z3 (iff.mp ad).2.2.1))
      · exact br_t (nI_lt (Nat.lt_of_not_le q2) (by omega)) (nm_r (nI_1 m) (hno (fun ad => q2 (iff.mp ad).2.1)))
    · exact nm_r (nI_1 m) (hno (fun ad => z (iff.mp ad).1))
theorem tm_twY {post : Int32 → SY → Prop} {k : Nat} {p0 p1 : Int32} (hk : k ≤ 4) (ok : tm_Ok P st en wo) (ht : tm_Th P th)
    (K : ∀ r lo', ((r = -1 ∧ ∀ i, i < 256 → ¬ tm_Adm P st en k (p0 &&& P) p1 (bt (nI i))) ∨ (∃ q, q < 256 ∧ tm_Adm P st en k (p0 &&& P) p1 (bt (nI q)) ∧ r = nI (tm_sN (tm_c wo) (bt (nI q)) 8) ∧ ∀ i, i < 256 → tm_Adm P st en k (p0 &&& P) p1 (bt (nI i)) → tm_sN (tm_c wo) (bt (nI i)) 8 ≤ tm_sN (tm_c wo) (bt (nI q)) 8)) → post r (nI k, th, st, en, wo, lo')) : wpY_totalWith post (nI k, th, st, en, wo, lo) p0 p1 := by
  unfold wpY_totalWith
  dsimp only
  refine tm_work ok ht ?_
  intro lo' hlo
  dsimp only
  refine tm_jb ok.1 ht ⟨257, ?_⟩
  exact tm_tw15 hk ok hlo (fun r h => K r lo' h) 256 0 (-1) rfl (Or.inl ⟨rfl, fun i hi => absurd hi (Nat.not_lt_zero i)⟩)
end
theorem tm_mw_mono {w : Nat → Nat} {A B : Nat → Bool} (h : tm_sN (tm_mw w) A 8 ≤ tm_sN (tm_mw w) B 8) : tm_sN w A 8 ≤ tm_sN w B 8 := by
  rw [← tm_mw_div w A, ← tm_mw_div w B]
  exact Nat.div_le_div_right h
theorem i_vc_totalWith {k : Nat} {u : SX} {v : SY} (I : i_Rel k u v) (hk : k + 4 ≤ 2049) (v1 : Int32) (v2 : Int32) : wpX_totalWith (fun r u' => wpY_totalWith (fun r' v' => r' = r ∧ i_Rel (k + 4) u' v') v v1 v2) u v1 v2 := by
  refine tm_el (Q := fun u v => wpX_totalWith (fun r u' => wpY_totalWith (fun r' v' => r' = r ∧ i_Rel (k + 4) u' v') v v1 v2) u v1 v2) ?_ I
  intro m P us ud kn ch st en wo ga wa re sp th lo hm ok ht hb
  unfold wpX_totalWith
  dsimp only
  refine br_c (fun z => ?_) (fun z => ?_)
  · refine tm_bw hm ok (fun i hi => ok.1 i (tm_and_r hi)) ?_ ?_
    · intro us' A ga' wa' re' sp' AB
      dsimp only
      obtain ⟨hl, ad, mx⟩ := AB
      obtain ⟨q, hq, rfl⟩ := tm_low_ex hl
      have b := tm_mw_b ok (bt (nI q))
      have h0 : (0 : Int32) ≤ nI q := nI_pos' (by omega)
      refine br_t h0 (tm_ms (fun j hj => (ok.2 j hj).2.2.1) ?_)
      unfold wX_totalWith_38
      refine br_t h0 (tm_plain (by omega) ?_)
      rw [tm_mw_div]
      refine tm_twY hm ok ht ?_
      intro r lo' h
      refine ⟨?_, tm_rel hm ok ht hb⟩
      rcases h with ⟨_, h2⟩ | ⟨p, hp, h1, h2, h3⟩
      · exact absurd ad (h2 q hq)
      · rw [h2]
        have e1 := tm_mw_mono (mx _ h1)
        have e2 := h3 q hq ad
        exact congrArg nI (by omega)
    · intro us' ud' ga' wa' re' sp' no
      dsimp only
      refine br_f (by decide) ?_
      unfold wX_totalWith_38
      refine br_f (by decide) (tm_twY hm ok ht ?_)
      intro r lo' h
      refine ⟨?_, tm_rel hm ok ht hb⟩
      rcases h with ⟨h1, _⟩ | ⟨p, hp, h1, _⟩
      · exact h1
      · exact absurd h1 (no _)
  · refine tm_twY hm ok ht ?_
    intro r lo' h
    refine ⟨?_, tm_rel hm ok ht hb⟩
    rcases h with ⟨h1, _⟩ | ⟨p, hp, h1, _⟩
    · exact h1
    · obtain ⟨i, hi⟩ := tm_ex z
      have i3 := tm_and_r hi
      have i12 := tm_and_l hi
      have i1 := tm_and_l i12
      have i2 := tm_and_r i12
      have i8 := ok.1 i i3
      obtain ⟨a, b, c, d⟩ := h1
      have d1 := d i i8 (by rw [b_and, i1, i3]; rfl)
      rw [b i i8 d1] at i2
      cases i2
end
section
/-! ===== price ===== -/
/-- the least w in 1 .. 20 with C, else 21 -/
def tm_Pr (C : Nat → Prop) (r : Nat) : Prop := (∀ w, 1 ≤ w → w < r → w ≤ 20 → ¬ C w) ∧ ((1 ≤ r ∧ r ≤ 20 ∧ C r) ∨ r = 21)
theorem tm_Pr_uq {C D : Nat → Prop} (h : ∀ w, 1 ≤ w → w ≤ 20 → (C w ↔ D w)) {r q : Nat} (hr : tm_Pr C r) (hq : tm_Pr D q) : r = q := by
  obtain ⟨r1, r2⟩ := hr
  obtain ⟨q1, q2⟩ := hq
  rcases Nat.lt_trichotomy r q with l | l | l
  · rcases r2 with ⟨a, b, c⟩ | a
    · exact absurd ((h r a b).mp c) (q1 r a l b)
    · rcases q2 with ⟨_, b, _⟩ | b <;> omega
  · exact l
  · rcases q2 with ⟨a, b, c⟩ | a
    · exact absurd ((h q a b).mpr c) (r1 q a l b)
    · rcases r2 with ⟨_, b, _⟩ | b <;> omega
/-- B without j -/
def tm_wo (B : Nat → Bool) (j : Nat) : Nat → Bool := fun i => B i && !decide (i = j)
theorem tm_sN_wo (f : Nat → Nat) (B : Nat → Bool) (j : Nat) : ∀ n, tm_sN f B n = tm_sN f (tm_wo B j) n + (if j < n ∧ B j = true then f j else 0)
  | 0 => by
    rw [if_neg (fun h => absurd h.1 (Nat.not_lt_zero j))]
    rfl
  | n + 1 => by
    rw [tm_sN_s, tm_sN_s, tm_sN_wo f B j n]
    by_cases e : j = n
    · subst e
      have h1 : tm_wo B j j = false := by
        unfold tm_wo
        rw [decide_eq_true rfl]
        cases B j <;> rfl
      rw [h1, if_neg (show ¬ (false = true) by decide), if_neg (fun h => absurd h.1 (Nat.lt_irrefl j))]
      by_cases z : B j = true
      · rw [if_pos z, if_pos ⟨Nat.lt_succ_self j, z⟩]
      · rw [if_neg z, if_neg (fun h => z h.2)]
    · have h1 : tm_wo B j n = B n := by
        unfold tm_wo
        rw [decide_eq_false (fun z => e z.symm)]
        cases B n <;> rfl
      rw [h1]
      by_cases z : j < n ∧ B j = true
      · rw [if_pos z, if_pos (show j < n + 1 ∧ B j = true from ⟨Nat.lt_succ_of_lt z.1, z.2⟩)]
        omega
      · rw [if_neg z, if_neg (show ¬ (j < n + 1 ∧ B j = true) from fun h => z ⟨by omega, h.2⟩)]
        omega
theorem tm_sN_wo8 (f : Nat → Nat) (B : Nat → Bool) {j : Nat} (hj : j < 8) : tm_sN f B 8 = tm_sN f (tm_wo B j) 8 + (if B j = true then f j else 0) := by
  rw [tm_sN_wo f B j 8]
  by_cases z : B j = true
  · rw [if_pos z, if_pos ⟨hj, z⟩]
  · rw [if_neg z, if_neg (fun h => z h.2)]
section
variable {T P us ud kn ch : Int32} {st en wo ga wa re sp th lo : Nat → Int32}
theorem tm_mw_wo {j w : Nat} (hw : w ≤ 20) (B : Nat → Bool) : tm_sN (tm_mw (tm_c (upd wo j (nI w)))) (tm_wo B j) 8 = tm_sN (tm_mw (tm_c wo)) (tm_wo B j) 8 := by
  refine tm_sN_cg 8 (fun _ _ => rfl) (fun i _ hi => ?_)
  have : i ≠ j := by
    intro z
    subst z
    unfold tm_wo at hi
    rw [decide_eq_true rfl] at hi
    revert hi
    cases B i <;> intro h <;> cases h
  unfold tm_mw
  rw [tm_cu wo (show w < 2 ^ 31 by omega), if_neg this]
theorem tm_mw_w {j w : Nat} (hj : j < 8) (hw : w ≤ 20) (B : Nat → Bool) : tm_sN (tm_mw (tm_c (upd wo j (nI w)))) B 8 = tm_sN (tm_mw (tm_c wo)) (tm_wo B j) 8 + (if B j = true then w * 256 + tm_mk j else 0) := by
  rw [tm_sN_wo8 _ B hj, tm_mw_wo hw]
  have : tm_mw (tm_c (upd wo j (nI w))) j = w * 256 + tm_mk j := by
    unfold tm_mw
    rw [tm_cu wo (show w < 2 ^ 31 by omega), if_pos rfl]
  rw [this]
theorem tm_pr1 {k j w : Nat} {A A2 Aw : Int32} (hj : j < 8) (hw : w ≤ 20) (h1 : tm_AdB P st en wo k ((1 : Int32) <<< (nI j &&& 31)) 0 A) (h2 : tm_AdB P st en wo k 0 ((1 : Int32) <<< (nI j &&& 31)) A2) (h3 : tm_Best P st en (upd wo j (nI w)) k Aw) : bt Aw j = true ↔ tm_sN (tm_mw (tm_c wo)) (bt A2) 8 < tm_sN (tm_mw (tm_c wo)) (tm_wo (bt A) j) 8 + (w * 256 + tm_mk j) := by
  obtain ⟨_, ⟨a1, a2, a3, a4⟩, a5⟩ := h1
  obtain ⟨_, ⟨b1, b2, b3, b4⟩, b5⟩ := h2
  obtain ⟨_, w1, w2, w3⟩ := h3
  have aj : bt A j = true := a4 j hj (by rw [tm_one (by omega)]; exact decide_eq_true rfl)
  have bj : bt A2 j = false := by
    cases z : bt A2 j
    · rfl
    · have := b2 j hj z
      rw [tm_one (by omega), decide_eq_true rfl] at this
      cases this
  have eA2 : tm_sN (tm_mw (tm_c wo)) (bt A2) 8 = tm_sN (tm_mw (tm_c wo)) (tm_wo (bt A2) j) 8 := by
    rw [tm_sN_wo8 _ (bt A2) hj, bj, if_neg (show ¬ (false = true) by decide), Nat.add_zero]
  have vA := w3 (bt A) a1 a3
  have vA2 := w3 (bt A2) b1 b3
  rw [tm_v0, tm_v0, tm_mw_w hj hw, tm_mw_w hj hw] at vA vA2
  rw [aj, if_pos rfl] at vA
  rw [bj, if_neg (show ¬ (false = true) by decide)] at vA2
  rw [eA2]
  cases z : bt Aw j
  · rw [z, if_neg (show ¬ (false = true) by decide)] at vA vA2
    have nV : ∀ i, i < 8 → bt Aw i = true → bt ((1 : Int32) <<< (nI j &&& 31)) i = false := by
      intro i hi q
      rw [tm_one (by omega)]
      refine decide_eq_false (fun e => ?_)
      subst e
      rw [z] at q
      cases q
    have n0 : ∀ i, i < 8 → bt 0 i = true → bt Aw i = true := by
      intro i hi q
      rw [b_0] at q
      cases q
    have m := b5 (bt Aw) ⟨w1, nV, w2, n0⟩
    rw [eA2, tm_sN_wo8 _ (bt Aw) hj, z, if_neg (show ¬ (false = true) by decide)] at m
    exact ⟨fun h => (by cases h), fun h => (by omega)⟩
  · rw [z, if_pos rfl] at vA vA2
    have m := a5 (bt Aw) ⟨w1, fun i hi q => b_0 i, w2, fun i hi q => by
      rw [tm_one (by omega)] at q
      have := of_decide_eq_true q
      subst this
      exact z⟩
    rw [tm_sN_wo8 _ (bt Aw) hj, tm_sN_wo8 _ (bt A) hj, z, aj, if_pos rfl] at m
    refine ⟨fun _ => ?_, fun _ => rfl⟩
    by_cases e : tm_sN (tm_mw (tm_c wo)) (tm_wo (bt A2) j) 8 = tm_sN (tm_mw (tm_c wo)) (tm_wo (bt Aw) j) 8 + (w * 256 + tm_mk j)
    · have inj := tm_mw_inj (w := tm_c (upd wo j (nI w))) (A := bt A2) (B := bt Aw) (by
        rw [tm_mw_w hj hw, tm_mw_w hj hw, bj, z, if_neg (show ¬ (false = true) by decide), if_pos rfl]
        omega) j hj
      rw [bj, z] at inj
      cases inj
    · omega
theorem tm_pr0 {k j w : Nat} {Aw : Int32} (no : ∀ B, ¬ tm_Adm P st en k ((1 : Int32) <<< (nI j &&& 31)) 0 B) (hj : j < 8) (h3 : tm_Best P st en (upd wo j (nI w)) k Aw) : ¬ bt Aw j = true := by
  intro z
  obtain ⟨_, w1, w2, w3⟩ := h3
  refine no (bt Aw) ⟨w1, fun i hi q => b_0 i, w2, fun i hi q => ?_⟩
  rw [tm_one (by omega)] at q
  have := of_decide_eq_true q
  subst this
  exact z
theorem tm_pX61 {post : Int32 → SX → Prop} {j : Nat} {x5 : Int32} (hj : j < 8) (K : ∀ r, tm_Pr (fun w => x5.toInt < ((w * 256 + tm_mk j : Nat) : Int)) r → post (nI r) (T, P, us, ud, kn, ch, st, en, wo, ga, wa, re, sp)) :
    ∀ dd w, w + dd = 21 → 1 ≤ w → (∀ q, 1 ≤ q → q < w → q ≤ 20 → ¬ x5.toInt < ((q * 256 + tm_mk j : Nat) : Int)) → wX_price_61 post (nI j) x5 T P us ud kn ch st en wo ga wa re sp (dd + 1) (nI w) := by
  have mk := tm_mk_le j
  intro dd
  induction dd with
  | zero =>
    intro w hw h1 h
    have : w = 21 := by omega
    subst this
    exact br_t (nI_lt (a := 20) (b := 21) (by decide) (by decide)) (K 21 ⟨h, Or.inr rfl⟩)
  | succ dd ih =>
    intro w hw h1 h
    refine br_f (nI_nlt (a := 20) (b := w) (by omega) (by decide)) ?_
    have e : nI w * 256 + ((1 : Int32) <<< ((7 - nI j) &&& 31)) = nI (w * 256 + tm_mk j) := by
      rw [show (7 : Int32) = nI 7 from rfl, pk_sub (show j ≤ 7 by omega), tm_shl (by omega), show (256 : Int32) = nI 256 from rfl, pk_mul, nI_add]
      rfl
    rw [e]
    have c : nI (w * 256 + tm_mk j) ≤ x5 ↔ ¬ x5.toInt < ((w * 256 + tm_mk j : Nat) : Int) := by
      rw [Int32.le_iff_toInt_le, nI_toInt (by omega)]
      omega
    refine br_c (fun z => nm_r (nI_1 w) (ih (w + 1) (by omega) (by omega) (fun q q1 q2 q3 => ?_))) (fun z => ?_)
    · by_cases y : q = w
      · subst y; exact c.mp z
      · exact h q q1 (by omega) q3
    · exact K w ⟨h, Or.inl ⟨h1, by omega, Classical.byContradiction (fun y => z (c.mpr y))⟩⟩
theorem tm_upd2 {a b : Nat → Int32} {j : Nat} (x : Int32) (h : ∀ i, i ≠ j → a i = b i) : upd a j x = upd b j x := by
  funext i
  by_cases z : i = j
  · subst z; rw [pk_us, pk_us]
  · rw [pk_un z, pk_un z]; exact h i z
theorem tm_upds {a b : Nat → Int32} {j : Nat} (h : ∀ i, i ≠ j → a i = b i) : upd a j (b j) = b := by
  funext i
  by_cases z : i = j
  · subst z; rw [pk_us]
  · rw [pk_un z]; exact h i z
theorem tm_pY28 {post : Int32 → SY → Prop} {j k : Nat} (hj : j < 8) (hk : k ≤ 4) (ok : tm_Ok P st en wo) (ht : tm_Th P th) (hlo : tm_Lo P st en lo)
    (K : ∀ r, tm_Pr (fun w => ∃ A, tm_Best P st en (upd wo j (nI w)) k A ∧ bt A j = true) r → post (nI r) (nI k, th, st, en, wo, lo)) :
    ∀ w l vo, w ≤ 20 → (∀ i, i ≠ j → vo i = wo i) → (∀ q, w < q → q < l → q ≤ 20 → ¬ ∃ A, tm_Best P st en (upd wo j (nI q)) k A ∧ bt A j = true) → ((w < l ∧ l ≤ 20 ∧ ∃ A, tm_Best P st en (upd wo j (nI l)) k A ∧ bt A j = true) ∨ l = 21) → wY_price_28 post (nI j) (wo j) (nI k) (w + 1) (nI l) (nI w) th st en vo lo := by
  have cj : (nI j).toNatClampNeg = j := nI_clamp (by omega)
  have ij : vp_in (nI j) 8 := vp_in_nI hj (by decide)
  intro w
  induction w with
  | zero =>
    intro l vo hw hv h1 h2
    refine br_t (nI_lt (a := 0) (b := 1) (by decide) (by decide)) ⟨ij, nm_r (e' := wo) (by rw [cj]; exact tm_upds hv) (K l ⟨fun q q1 q2 q3 => h1 q (by omega) q2 q3, ?_⟩)⟩
    rcases h2 with ⟨a, b, c⟩ | a
    · exact Or.inl ⟨by omega, b, c⟩
    · exact Or.inr a
  | succ w ih =>
    intro l vo hw hv h1 h2
    refine br_f (nI_nlt (a := w + 1) (b := 1) (by omega) (by omega)) ⟨ij, nm_r (e' := upd wo j (nI (w + 1))) (by rw [cj]; exact tm_upd2 _ hv) ?_⟩
    refine tm_bs (P := P) (by omega) (tm_ok_val hj ok hw) ht hlo (fun A BA => ?_)
    have hv' : ∀ i, i ≠ j → upd wo j (nI (w + 1)) i = wo i := fun i hi => pk_un hi
    refine br_c (fun z => ?_) (fun z => ?_)
    · have hA := (tm_bit1 (by omega)).mp z
      exact nm_r (pk_m1 w) (ih (w + 1) _ (by omega) hv' (fun q q1 q2 q3 => absurd q1 (by omega)) (Or.inl ⟨by omega, hw, A, BA, hA⟩))
    · refine nm_r (pk_m1 w) (ih l _ (by omega) hv' (fun q q1 q2 q3 => ?_) ?_)
      · by_cases y : q = w + 1
        · subst y
          intro ⟨A', B', hA'⟩
          rw [tm_Best_uq B' BA] at hA'
          exact z ((tm_bit1 (by omega)).mpr hA')
        · exact h1 q (by omega) q2 q3
      · rcases h2 with ⟨a, b, c⟩ | a
        · exact Or.inl ⟨by omega, b, c⟩
        · exact Or.inr a
theorem tm_prY {post : Int32 → SY → Prop} {j k : Nat} (hj : j < 8) (hk : k ≤ 4) (ok : tm_Ok P st en wo) (ht : tm_Th P th) (hP : bt P j = true)
    (K : ∀ r lo', tm_Pr (fun w => ∃ A, tm_Best P st en (upd wo j (nI w)) k A ∧ bt A j = true) r → post (nI r) (nI k, th, st, en, wo, lo')) : wpY_price post (nI k, th, st, en, wo, lo) (nI j) := by
  unfold wpY_price
  dsimp only
  refine tm_is hj ht ?_
  rw [hP]
  refine br_f (by decide) (tm_work ok ht ?_)
  intro lo' hlo
  dsimp only
  rw [nI_clamp (show j < 2 ^ 31 by omega)]
  refine ⟨vp_in_nI hj (by decide), nm_e ⟨21, ?_⟩⟩
  exact tm_pY28 hj hk ok ht hlo (fun r h => K r lo' h) 20 21 wo (Nat.le_refl _) (fun _ _ => rfl) (fun q q1 q2 q3 => absurd q1 (by omega)) (Or.inr rfl)
theorem tm_exB {k : Nat} (ok : tm_Ok P st en wo) : ∃ A, tm_Best P st en wo k A := by
  have v00 : tm_v (tm_g0 wo) (bt 0) = 0 := by
    unfold tm_v
    rw [tm_S_cg (g := fun _ => 0) 8 (fun j _ => by rw [b_0, tm_b0]; exact Int.zero_mul _), tm_S_0]
  obtain ⟨c, ⟨B, b1, b2, b3⟩, mx⟩ := tm_max (fun c => ∃ B, tm_Sub B (bt P) ∧ tm_Fit (tm_c st) (tm_c en) k B ∧ tm_v (tm_g0 wo) B = c) 41984
    ⟨bt 0, fun j _ z => (by rw [b_0] at z; cases z), tm_fit0 _ _ k, v00⟩ (by
      intro c hc
      obtain ⟨B, _, _, e⟩ := hc
      have := tm_mw_b ok B
      rw [← e, tm_v0]
      omega)
  obtain ⟨m, hm, hb, hs⟩ := tm_encS ok.1 b1
  refine ⟨nI m, tm_nlow hm, fun j _ z => hs j z, tm_Fit_cg (fun j hj => (hb j hj).symm) b2, fun B' s' f' => ?_⟩
  have h1 := mx _ ⟨B', s', f', rfl⟩
  have h2 : tm_v (tm_g0 wo) (bt (nI m)) = tm_v (tm_g0 wo) B := tm_S_cg 8 (fun j hj => by rw [hb j hj])
  omega
theorem tm_low0 : tm_low 0 := fun i hi => (by rw [b_0] at hi; cases hi)
theorem tm_low1 {j : Nat} (hj : j < 8) : tm_low ((1 : Int32) <<< (nI j &&& 31)) := by
  intro i hi
  rw [tm_one (by omega)] at hi
  have := of_decide_eq_true hi
  omega
theorem tm_adm00 {k : Nat} {V : Int32} : tm_Adm P st en k 0 V (bt 0) :=
  ⟨fun j _ z => (by rw [b_0] at z; cases z), fun j _ z => (by rw [b_0] at z; cases z), tm_fit0 _ _ k, fun j _ z => z⟩
theorem tm_prIff {k j : Nat} {A A2 x5 : Int32} (hj : j < 8) (ok : tm_Ok P st en wo) (h1 : tm_AdB P st en wo k ((1 : Int32) <<< (nI j &&& 31)) 0 A) (h2 : tm_AdB P st en wo k 0 ((1 : Int32) <<< (nI j &&& 31)) A2)
    (hx : x5 = nI (tm_sN (tm_mw (tm_c wo)) (bt A2) 8) - nI (tm_sN (tm_mw (tm_c wo)) (bt (A &&& (((1 : Int32) <<< (nI j &&& 31)) ^^^ (-1)))) 8)) (w : Nat) (hw : w ≤ 20) : (∃ B, tm_Best P st en (upd wo j (nI w)) k B ∧ bt B j = true) ↔ x5.toInt < ((w * 256 + tm_mk j : Nat) : Int) := by
  have e : tm_sN (tm_mw (tm_c wo)) (bt (A &&& (((1 : Int32) <<< (nI j &&& 31)) ^^^ (-1)))) 8 = tm_sN (tm_mw (tm_c wo)) (tm_wo (bt A) j) 8 := tm_sN_cg 8 (fun i _ => tm_clr A (by omega) i) (fun _ _ _ => rfl)
  have l1 := tm_mw_b ok (bt A2)
  have l2 := tm_mw_b ok (tm_wo (bt A) j)
  rw [hx, e, pk_sub_toInt (by omega) (by omega)]
  obtain ⟨Aw, hB⟩ := tm_exB (k := k) (tm_ok_val hj ok hw)
  have h := tm_pr1 hj hw h1 h2 hB
  constructor
  · intro ⟨B, b1, b2⟩
    rw [tm_Best_uq b1 hB] at b2
    have := h.mp b2
    omega
  · intro q
    exact ⟨Aw, hB, h.mpr (by omega)⟩
end
theorem i_vc_price {k : Nat} {u : SX} {v : SY} (I : i_Rel k u v) (hk : k + 4 ≤ 2049) (v1 : Int32) : wpX_price (fun r u' => wpY_price (fun r' v' => r' = r ∧ i_Rel (k + 4) u' v') v v1) u v1 := by
  refine tm_el (Q := fun u v => wpX_price (fun r u' => wpY_price (fun r' v' => r' = r ∧ i_Rel (k + 4) u' v') v v1) u v1) ?_ I
  intro m P us ud kn ch st en wo ga wa re sp th lo hm ok ht hb
  rcases pk_ix v1 (n := 8) (by decide) with h | h | ⟨j, hj, rfl⟩
  · unfold wpX_price wpY_price
    dsimp only
    exact tm_has_out (Or.inl h) (br_t rfl (tm_is_out (Or.inl h) (br_t rfl ⟨rfl, tm_rel hm ok ht hb⟩)))
  · unfold wpX_price wpY_price
    dsimp only
    exact tm_has_out (Or.inr h) (br_t rfl (tm_is_out (Or.inr h) (br_t rfl ⟨rfl, tm_rel hm ok ht hb⟩)))
  · unfold wpX_price
    dsimp only
    refine tm_has hj ?_
    cases z : bt P j
    · refine br_t rfl ?_
      unfold wpY_price
      dsimp only
      refine tm_is hj ht ?_
      rw [z]
      exact br_t rfl ⟨rfl, tm_rel hm ok ht hb⟩
    · refine br_f (by decide) (tm_bw hm ok (tm_low1 hj) ?_ ?_)
      · intro us' A ga' wa' re' sp' AB
        dsimp only
        obtain ⟨q, hq, eA⟩ := tm_low_ex AB.1
        refine br_t (by rw [eA]; exact nI_pos' (by omega)) (tm_ms (fun j hj => (ok.2 j hj).2.2.1) (tm_bw hm ok tm_low0 ?_ ?_))
        · intro us2 A2 ga2 wa2 re2 sp2 AB2
          dsimp only
          refine tm_ms (fun j hj => (ok.2 j hj).2.2.1) (fun x5 e5 => ⟨21, tm_pX61 hj ?_ 20 1 rfl (Nat.le_refl _) (fun q q1 q2 q3 => absurd q1 (by omega))⟩)
          intro r hr
          refine tm_prY hj hm ok ht z ?_
          intro r' lo' hr'
          exact ⟨congrArg nI (tm_Pr_uq (fun w _ hw => tm_prIff hj ok AB AB2 e5 w hw) hr' hr), tm_rel hm ok ht hb⟩
        · intro us2 ud2 ga2 wa2 re2 sp2 no
          exact absurd tm_adm00 (no _)
      · intro us' ud' ga' wa' re' sp' no
        dsimp only
        refine br_f (by decide) (tm_prY hj hm ok ht z ?_)
        intro r' lo' hr'
        refine ⟨congrArg nI (a₂ := 21) ?_, tm_rel hm ok ht hb⟩
        rcases hr'.2 with ⟨_, _, B, b1, b2⟩ | h
        · exact absurd b2 (tm_pr0 no hj b1)
        · exact h
end
