section
/-! rows of kit/rows (starting text): numbers, branches, masks, shifts; bits of an Int32 -/
theorem pk_us {f : Nat → Int32} {k : Nat} {x : Int32} : upd f k x k = x := if_pos rfl
theorem pk_un {f : Nat → Int32} {k j : Nat} {x : Int32} (h : j ≠ k) : upd f k x j = f j := if_neg h
theorem pk_sub {a b : Nat} (h : b ≤ a) : nI a - nI b = nI (a - b) := by
  obtain ⟨c, rfl⟩ : ∃ c, a = c + b := ⟨a - b, by omega⟩
  rw [← nI_add, Int32.add_sub_cancel, Nat.add_sub_cancel]
theorem pk_m1 (n : Nat) : nI (n + 1) + (-1) = nI n := by
  rw [← nI_1, Int32.add_assoc, show (1 : Int32) + (-1) = 0 from rfl, Int32.add_zero]
theorem pk_mul (a b : Nat) : nI a * nI b = nI (a * b) := (Int32.ofNat_mul a b).symm
theorem pk_div {a d : Nat} (ha : a < 2 ^ 31) (h0 : 0 < d) (hd : d < 2 ^ 31) : nI a / nI d = nI (a / d) := by
  apply Int32.toInt_inj.mp
  rw [lg_idiv_nonneg (by rw [nI_toInt ha]; omega) (by rw [nI_toInt hd]; omega), nI_toInt ha, nI_toInt hd, nI_toInt (Nat.lt_of_le_of_lt (Nat.div_le_self a d) ha)]
  first | rfl | exact (Int.natCast_ediv _ _).symm
theorem pk_rem {a d : Nat} (ha : a < 2 ^ 31) (h0 : 0 < d) (hd : d < 2 ^ 31) : nI a - nI a / nI d * nI d = nI (a % d) := by
  rw [pk_div ha h0 hd, pk_mul, pk_sub (Nat.div_mul_le_self a d)]
  exact congrArg nI (by have := Nat.div_add_mod' a d; omega)
theorem pk_le {x y : Int32} {A B : Prop} (a b : Nat) (f : a ≤ b → A) (g : b < a → B) (hx : x = nI a := by rfl) (hy : y = nI b := by rfl) (ha : a < 2 ^ 31 := by omega) (hb : b < 2 ^ 31 := by omega) : (x ≤ y → A) ∧ (¬ x ≤ y → B) := by
  subst hx hy
  rw [nI_leI ha hb]
  exact ⟨f, fun z => g (by omega)⟩
theorem pk_lt {x y : Int32} {A B : Prop} (a b : Nat) (f : a < b → A) (g : b ≤ a → B) (hx : x = nI a := by rfl) (hy : y = nI b := by rfl) (ha : a < 2 ^ 31 := by omega) (hb : b < 2 ^ 31 := by omega) : (x < y → A) ∧ (¬ x < y → B) := by
  subst hx hy
  rw [nI_ltI ha hb]
  exact ⟨f, fun z => g (by omega)⟩
theorem pk_eq {x y : Int32} {A B : Prop} (a b : Nat) (f : a = b → A) (g : a ≠ b → B) (hx : x = nI a := by rfl) (hy : y = nI b := by rfl) (ha : a < 2 ^ 31 := by omega) (hb : b < 2 ^ 31 := by omega) : (x = y → A) ∧ (¬ x = y → B) := by
  subst hx hy
  rw [nI_eq ha hb]
  exact ⟨f, g⟩
theorem pk_in {x : Int32} (n N : Nat) (h : n < N) (hx : x = nI n := by rfl) (hN : N < 2 ^ 31 := by omega) : vp_in x N := by
  subst hx
  exact vp_in_nI h hN
theorem pk_cl {x : Int32} (n : Nat) (hx : x = nI n := by rfl) (h : n < 2 ^ 31 := by omega) : x.toNatClampNeg = n := by
  subst hx
  exact nI_clamp h
theorem pk_tn {n : Nat} (h : n < 2 ^ 32) : (nI n).toBitVec.toNat = n := Nat.mod_eq_of_lt h
theorem pk_and (x : Int32) {m : Int32} (k : Nat) (hm : m.toBitVec.toNat = 2 ^ k - 1) : x &&& m = nI (x.toBitVec.toNat % 2 ^ k) := by
  apply Int32.toBitVec_inj.mp
  apply BitVec.eq_of_toNat_eq
  rw [Int32.toBitVec_and, BitVec.toNat_and, hm, Nat.and_two_pow_sub_one_eq_mod]
  show _ = (BitVec.ofNat 32 _).toNat
  rw [BitVec.toNat_ofNat]
  exact (Nat.mod_eq_of_lt (Nat.lt_of_le_of_lt (Nat.mod_le _ _) x.toBitVec.isLt)).symm
theorem pk_andN {n : Nat} (h : n < 2 ^ 32) {m : Int32} (k : Nat) (hm : m.toBitVec.toNat = 2 ^ k - 1) : nI n &&& m = nI (n % 2 ^ k) := by
  rw [pk_and _ k hm, pk_tn h]
theorem pk_andE (x : Int32) {m : Int32} (k : Nat) (hm : m.toBitVec.toNat = 2 ^ k - 1) : ∃ j : Nat, j < 2 ^ k ∧ x &&& m = nI j := ⟨_, Nat.mod_lt _ (Nat.two_pow_pos k), pk_and x k hm⟩
theorem pk_shl (a s : Int32) (k : Nat) (hs : (s.toBitVec.smod 32).toNat = k) : (a <<< s).toBitVec.toNat = a.toBitVec.toNat * 2 ^ k % 2 ^ 32 := by
  show (a.toBitVec <<< (s.toBitVec.smod 32).toNat).toNat = _
  rw [hs, BitVec.toNat_shiftLeft, Nat.shiftLeft_eq]
theorem pk_shlN {n : Nat} (s : Int32) (k : Nat) (hs : (s.toBitVec.smod 32).toNat = k) (h : n * 2 ^ k < 2 ^ 32) : nI n <<< s = nI (n * 2 ^ k) := by
  apply Int32.toBitVec_inj.mp
  apply BitVec.eq_of_toNat_eq
  have hn : n < 2 ^ 32 := Nat.lt_of_le_of_lt (Nat.le_mul_of_pos_right n (Nat.two_pow_pos k)) h
  rw [pk_shl _ _ k hs, pk_tn hn, pk_tn h, Nat.mod_eq_of_lt h]
theorem pk_shr (a s : Int32) (k : Nat) (hs : (s.toBitVec.smod 32).toNat = k) : (a >>> s).toInt = a.toInt >>> k := by
  show (a.toBitVec.sshiftRight (s.toBitVec.smod 32).toNat).toInt = _
  rw [hs, BitVec.toInt_sshiftRight]
  rfl
theorem pk_shrN {n : Nat} (h : n < 2 ^ 31) (s : Int32) (k : Nat) (hs : (s.toBitVec.smod 32).toNat = k) : nI n >>> s = nI (n / 2 ^ k) := by
  apply Int32.toInt_inj.mp
  have h2 : n / 2 ^ k ≤ n := Nat.div_le_self _ _
  rw [pk_shr _ _ k hs, nI_toInt h, nI_toInt (by omega), Int.shiftRight_eq_div_pow]
  rfl
theorem pk_ushr (x s : Int32) (k : Nat) (hs : ((s.toUInt32 &&& Int32.toUInt32 31).toBitVec % 32).toNat = k) : (x.toUInt32 >>> (s.toUInt32 &&& Int32.toUInt32 31)).toInt32.toBitVec.toNat = x.toBitVec.toNat / 2 ^ k := by
  have e : (x.toUInt32 >>> (s.toUInt32 &&& Int32.toUInt32 31)).toInt32.toBitVec = x.toBitVec >>> k := by
    rw [← hs]
    exact UInt32.toBitVec_shiftRight _ _
  rw [e, BitVec.toNat_ushiftRight, Nat.shiftRight_eq_div_pow]
theorem pk_ushrN {n : Nat} (hn : n < 2 ^ 32) (s : Int32) (k : Nat) (hs : ((s.toUInt32 &&& Int32.toUInt32 31).toBitVec % 32).toNat = k) : ((nI n).toUInt32 >>> (s.toUInt32 &&& Int32.toUInt32 31)).toInt32 = nI (n / 2 ^ k) := by
  apply Int32.toBitVec_inj.mp
  apply BitVec.eq_of_toNat_eq
  rw [pk_ushr _ s k hs, pk_tn hn, pk_tn (Nat.lt_of_le_of_lt (Nat.div_le_self _ _) hn)]
def bt (x : Int32) (i : Nat) : Bool := x.toBitVec.getLsbD i
theorem b_ext {x y : Int32} (h : ∀ i, i < 32 → bt x i = bt y i) : x = y := Int32.toBitVec_inj.mp (BitVec.eq_of_getLsbD_eq (fun i hi => h i hi))
theorem b_or (x y : Int32) (i : Nat) : bt (x ||| y) i = (bt x i || bt y i) := by unfold bt; rw [Int32.toBitVec_or, BitVec.getLsbD_or]
theorem b_and (x y : Int32) (i : Nat) : bt (x &&& y) i = (bt x i && bt y i) := by unfold bt; rw [Int32.toBitVec_and, BitVec.getLsbD_and]
theorem b_big {x : Int32} {i : Nat} (h : 32 ≤ i) : bt x i = false := BitVec.getLsbD_of_ge _ _ h
theorem b_0 (i : Nat) : bt 0 i = false := BitVec.getLsbD_zero
theorem s_l : ∀ n, n < 32 → ((nI n &&& 31).toBitVec.smod 32).toNat = n := by decide +kernel
theorem s_u : ∀ n, n < 32 → (((nI n).toUInt32 &&& Int32.toUInt32 31).toBitVec % 32).toNat = n := by decide +kernel
theorem b_shl (n : Nat) (hn : n < 32) (x : Int32) {i : Nat} (hi : i < 32) : bt (x <<< (nI n &&& 31)) i = (decide (n ≤ i) && bt x (i - n)) := by
  unfold bt
  rw [Int32.toBitVec_shiftLeft]
  show (x.toBitVec <<< ((nI n &&& 31).toBitVec.smod 32).toNat).getLsbD i = _
  rw [s_l n hn, BitVec.getLsbD_shiftLeft]
  rcases Nat.lt_or_ge i n with h | h
  · simp [h, Nat.not_le.mpr h]
  · simp [hi, h, Nat.not_lt.mpr h]
theorem b_ushr (n : Nat) (hn : n < 32) (x : Int32) (i : Nat) : bt ((x.toUInt32 >>> ((nI n).toUInt32 &&& Int32.toUInt32 31)).toInt32) i = bt x (n + i) := by
  show (x.toUInt32 >>> ((nI n).toUInt32 &&& Int32.toUInt32 31)).toBitVec.getLsbD i = x.toUInt32.toBitVec.getLsbD (n + i)
  rw [UInt32.toBitVec_shiftRight]
  show (x.toUInt32.toBitVec >>> (((nI n).toUInt32 &&& Int32.toUInt32 31).toBitVec % 32).toNat).getLsbD i = _
  rw [s_u n hn, BitVec.getLsbD_ushiftRight]
end
section
/-! pure: places, ranks, steps, the two tables and their facts -/
def ps_ol : List Nat := [0, 8, 72, 80, 4, 36, 40, 44, 76, 2, 6, 18, 20, 22, 24, 26, 38, 42, 54, 56, 58, 60, 62, 74, 78, 1, 3, 5, 7, 9, 10, 11, 12, 13, 14, 15, 16, 17, 19, 21, 23, 25, 27, 28, 29, 30, 31, 32, 33, 34, 35, 37, 39, 41, 43, 45, 46, 47, 48, 49, 50, 51, 52, 53, 55, 57, 59, 61, 63, 64, 65, 66, 67, 68, 69, 70, 71, 73, 75, 77, 79]
def ps_rl : List Nat := [0, 25, 9, 26, 4, 27, 10, 28, 1, 29, 30, 31, 32, 33, 34, 35, 36, 37, 11, 38, 12, 39, 13, 40, 14, 41, 15, 42, 43, 44, 45, 46, 47, 48, 49, 50, 5, 51, 16, 52, 6, 53, 17, 54, 7, 55, 56, 57, 58, 59, 60, 61, 62, 63, 18, 64, 19, 65, 20, 66, 21, 67, 22, 68, 69, 70, 71, 72, 73, 74, 75, 76, 2, 77, 23, 78, 8, 79, 24, 80, 3]
def ps_od (k : Nat) : Nat := ps_ol.getD k 0
def ps_rk (p : Nat) : Nat := ps_rl.getD p 0
def ps_s2 (x y : Nat) : Nat := if x % 2 = 0 ∧ y % 2 = 0 then 2 else 1
def ps_s4 (x y : Nat) : Nat := if x % 4 = 0 ∧ y % 4 = 0 then 4 else ps_s2 x y
def ps_s8 (x y : Nat) : Nat := if x % 8 = 0 ∧ y % 8 = 0 then 8 else ps_s4 x y
/-- the step of a place -/
def ps_st (p : Nat) : Nat := ps_s8 (p % 9) (p / 9)
theorem ps_od_lt : ∀ k, k < 81 → ps_od k < 81 := by decide +kernel
theorem ps_rk_lt : ∀ p, p < 81 → ps_rk p < 81 := by decide +kernel
theorem ps_rk_od : ∀ k, k < 81 → ps_rk (ps_od k) = k := by decide +kernel
theorem ps_od_rk : ∀ p, p < 81 → ps_od (ps_rk p) = p := by decide +kernel
theorem ps_s2_r (x y : Nat) : 1 ≤ ps_s2 x y ∧ ps_s2 x y ≤ 2 := by
  unfold ps_s2
  split <;> decide
theorem ps_s4_r (x y : Nat) : 1 ≤ ps_s4 x y ∧ ps_s4 x y ≤ 4 := by
  have h := ps_s2_r x y
  unfold ps_s4
  split <;> omega
theorem ps_st_r (p : Nat) : 1 ≤ ps_st p ∧ ps_st p ≤ 8 := by
  have h := ps_s4_r (p % 9) (p / 9)
  unfold ps_st ps_s8
  split <;> omega
/-- how many places before j come before place i: the reference's count -/
def ps_pl (i : Nat) : Nat → Nat
  | 0 => 0
  | j + 1 => ps_pl i j + (if ps_st i < ps_st j ∨ (ps_st j = ps_st i ∧ j < i) then 1 else 0)
theorem ps_pl_81 : ∀ i, i < 81 → ps_pl i 81 = ps_rk i := by decide +kernel
theorem ps_pl_le (i : Nat) : ∀ j, ps_pl i j ≤ j := by
  intro j
  induction j with
  | zero => exact Nat.le_refl 0
  | succ j ih =>
    have e : ps_pl i (j + 1) = ps_pl i j + (if ps_st i < ps_st j ∨ (ps_st j = ps_st i ∧ j < i) then 1 else 0) := rfl
    rw [e]
    split <;> omega
/-- b and the places of step s before p: the component's count -/
def ps_cn (s b : Nat) : Nat → Nat
  | 0 => b
  | p + 1 => ps_cn s b p + (if ps_st p = s then 1 else 0)
theorem ps_cn8 : ∀ p, p < 81 → ps_st p = 8 → ps_rk p = ps_cn 8 0 p := by decide +kernel
theorem ps_cn4 : ∀ p, p < 81 → ps_st p = 4 → ps_rk p = ps_cn 4 4 p := by decide +kernel
theorem ps_cn2 : ∀ p, p < 81 → ps_st p = 2 → ps_rk p = ps_cn 2 9 p := by decide +kernel
theorem ps_cn1 : ∀ p, p < 81 → ps_st p = 1 → ps_rk p = ps_cn 1 25 p := by decide +kernel
theorem ps_cn8e : ps_cn 8 0 81 = 4 := by decide +kernel
theorem ps_cn4e : ps_cn 4 4 81 = 9 := by decide +kernel
theorem ps_cn2e : ps_cn 2 9 81 = 25 := by decide +kernel
theorem ps_cn1e : ps_cn 1 25 81 = 81 := by decide +kernel
/-- what the constructor has written when c places are ranked -/
def ps_Iv (c : Nat) (O R : Nat → Int32) : Prop := (∀ j, j < c → O j = nI (ps_od j)) ∧ (∀ q, q < 81 → ps_rk q < c → R q = nI (ps_rk q))
theorem ps_Iv0 (O R : Nat → Int32) : ps_Iv 0 O R := ⟨fun _ h => absurd h (Nat.not_lt_zero _), fun _ _ h => absurd h (Nat.not_lt_zero _)⟩
theorem ps_IvS {c p : Nat} {O R : Nat → Int32} (hp : p < 81) (hc : ps_rk p = c) (h : ps_Iv c O R) : ps_Iv (c + 1) (upd O c (nI p)) (upd R p (nI c)) := by
  constructor
  · intro j hj
    by_cases e : j = c
    · subst e
      rw [pk_us, ← hc, ps_od_rk p hp]
    · rw [pk_un e]
      exact h.1 j (by omega)
  · intro q hq hr
    by_cases e : q = p
    · subst e
      rw [pk_us, hc]
    · rw [pk_un e]
      refine h.2 q hq ?_
      have : ps_rk q ≠ c := by
        intro z
        apply e
        rw [← ps_od_rk q hq, ← ps_od_rk p hp, z, hc]
      omega
/-! the pixels that foretell a place are of a smaller rank -/
def ps_re (p : Nat) : Nat := if p % 9 % (2 * ps_st p) = 0 then 9 * ps_st p else ps_st p
theorem ps_nb4 : ∀ p, p < 81 → ps_st p ≠ 8 → p % 9 % (2 * ps_st p) ≠ 0 → p / 9 % (2 * ps_st p) ≠ 0 → 9 * ps_st p + ps_st p ≤ p ∧ p + 9 * ps_st p + ps_st p < 81 := by decide +kernel
theorem ps_nb4a : ∀ p, p < 81 → ps_st p ≠ 8 → p % 9 % (2 * ps_st p) ≠ 0 → p / 9 % (2 * ps_st p) ≠ 0 → ps_rk (p - 9 * ps_st p - ps_st p) < ps_rk p ∧ ps_rk (p - 9 * ps_st p + ps_st p) < ps_rk p := by decide +kernel
theorem ps_nb4b : ∀ p, p < 81 → ps_st p ≠ 8 → p % 9 % (2 * ps_st p) ≠ 0 → p / 9 % (2 * ps_st p) ≠ 0 → ps_rk (p + 9 * ps_st p - ps_st p) < ps_rk p ∧ ps_rk (p + 9 * ps_st p + ps_st p) < ps_rk p := by decide +kernel
theorem ps_nb2 : ∀ p, p < 81 → ps_st p ≠ 8 → (p % 9 % (2 * ps_st p) = 0 ∨ p / 9 % (2 * ps_st p) = 0) → ps_re p ≤ p ∧ p + ps_re p < 81 := by decide +kernel
theorem ps_nb2a : ∀ p, p < 81 → ps_st p ≠ 8 → (p % 9 % (2 * ps_st p) = 0 ∨ p / 9 % (2 * ps_st p) = 0) → ps_rk (p - ps_re p) < ps_rk p ∧ ps_rk (p + ps_re p) < ps_rk p := by decide +kernel
/-- what is foretold of place p out of the picture P -/
def ps_gs (P : Nat → Int32) (p : Nat) : Int32 :=
  if ps_st p = 8 then (if ps_rk p = 0 then 128 else P (ps_od (ps_rk p - 1)))
  else if p % 9 % (2 * ps_st p) ≠ 0 ∧ p / 9 % (2 * ps_st p) ≠ 0 then
    (((P (p - 9 * ps_st p - ps_st p) + P (p - 9 * ps_st p + ps_st p)) + (P (p + 9 * ps_st p - ps_st p) + P (p + 9 * ps_st p + ps_st p))) + 2) / 4
  else ((P (p - ps_re p) + P (p + ps_re p)) + 1) / 2
theorem ps_gs_c {P Q : Nat → Int32} {p : Nat} (hp : p < 81) (h : ∀ q, q < 81 → ps_rk q < ps_rk p → P q = Q q) : ps_gs P p = ps_gs Q p := by
  unfold ps_gs
  by_cases h8 : ps_st p = 8
  · rw [if_pos h8, if_pos h8]
    by_cases h0 : ps_rk p = 0
    · rw [if_pos h0, if_pos h0]
    · have hr := ps_rk_lt p hp
      rw [if_neg h0, if_neg h0]
      refine h _ (ps_od_lt _ (by omega)) ?_
      rw [ps_rk_od _ (by omega)]
      omega
  · rw [if_neg h8, if_neg h8]
    by_cases hb : p % 9 % (2 * ps_st p) ≠ 0 ∧ p / 9 % (2 * ps_st p) ≠ 0
    · have ⟨a1, a2⟩ := ps_nb4 p hp h8 hb.1 hb.2
      have ⟨b1, b2⟩ := ps_nb4a p hp h8 hb.1 hb.2
      have ⟨c1, c2⟩ := ps_nb4b p hp h8 hb.1 hb.2
      rw [if_pos hb, if_pos hb, h _ (by omega) b1, h _ (by omega) b2, h _ (by omega) c1, h _ (by omega) c2]
    · have hb' : p % 9 % (2 * ps_st p) = 0 ∨ p / 9 % (2 * ps_st p) = 0 := by
        by_cases z : p % 9 % (2 * ps_st p) = 0
        · exact Or.inl z
        · by_cases z2 : p / 9 % (2 * ps_st p) = 0
          · exact Or.inr z2
          · exact absurd ⟨z, z2⟩ hb
      have ⟨a1, a2⟩ := ps_nb2 p hp h8 hb'
      have ⟨b1, b2⟩ := ps_nb2a p hp h8 hb'
      rw [if_neg hb, if_neg hb, h _ (by omega) b1, h _ (by omega) b2]
end
section
/-! pure: bits in the row of words, writing a list of bits, holding one; the code of a number; fold, adapt; the whole sending of a picture -/
def ps_bI (b : Bool) : Int32 := if b = true then 1 else 0
theorem ps_bI_n (b : Bool) : ps_bI b = nI b.toNat := by cases b <;> rfl
theorem ps_bI_bt (b : Bool) (i : Nat) (hi : i < 32) : bt (ps_bI b) i = (decide (i = 0) && b) := by
  cases b
  · show bt 0 i = _
    rw [b_0, Bool.and_false]
  · show bt 1 i = _
    rw [Bool.and_true]
    exact (by decide +kernel : ∀ i, i < 32 → bt 1 i = decide (i = 0)) i hi
/-- bit i of the row -/
def ps_bA (B : Nat → Int32) (i : Nat) : Bool := bt (B (i / 32)) (i % 32)
def ps_w1 (B : Nat → Int32) (L : Nat) (b : Bool) : Nat → Int32 := upd B (L / 32) (B (L / 32) ||| (ps_bI b <<< (nI (L % 32) &&& 31)))
theorem ps_w1_s (B : Nat → Int32) (L : Nat) (b : Bool) : ps_bA (ps_w1 B L b) L = (ps_bA B L || b) := by
  unfold ps_bA ps_w1
  rw [pk_us, b_or, b_shl _ (by omega) _ (by omega), Nat.sub_self, ps_bI_bt b 0 (by decide)]
  simp
theorem ps_w1_n (B : Nat → Int32) {L i : Nat} (b : Bool) (h : i ≠ L) : ps_bA (ps_w1 B L b) i = ps_bA B i := by
  unfold ps_bA ps_w1
  by_cases e : i / 32 = L / 32
  · rw [e, pk_us, b_or, b_shl _ (by omega) _ (by omega)]
    by_cases z : L % 32 ≤ i % 32
    · rw [ps_bI_bt b _ (by omega), decide_eq_false (show ¬ i % 32 - L % 32 = 0 by omega)]
      simp
    · rw [decide_eq_false z]
      simp
  · rw [pk_un e]
/-- the list l written from L on -/
def ps_wr : List Bool → Nat → (Nat → Int32) → (Nat → Int32)
  | [], _, B => B
  | b :: l, L, B => ps_wr l (L + 1) (ps_w1 B L b)
theorem ps_wr_app : ∀ (l l' : List Bool) (L : Nat) (B : Nat → Int32), ps_wr (l ++ l') L B = ps_wr l' (L + l.length) (ps_wr l L B) := by
  intro l
  induction l with
  | nil => intro l' L B; rfl
  | cons b l ih =>
    intro l' L B
    show ps_wr (l ++ l') (L + 1) (ps_w1 B L b) = ps_wr l' (L + (l.length + 1)) (ps_wr l (L + 1) (ps_w1 B L b))
    rw [ih, show L + 1 + l.length = L + (l.length + 1) from by omega]
theorem ps_wr_lt : ∀ (l : List Bool) (L : Nat) (B : Nat → Int32) (i : Nat), i < L → ps_bA (ps_wr l L B) i = ps_bA B i := by
  intro l
  induction l with
  | nil => intro L B i _; rfl
  | cons b l ih =>
    intro L B i h
    show ps_bA (ps_wr l (L + 1) (ps_w1 B L b)) i = _
    rw [ih _ _ _ (by omega), ps_w1_n B b (by omega)]
theorem ps_wr_ge : ∀ (l : List Bool) (L : Nat) (B : Nat → Int32) (i : Nat), L + l.length ≤ i → ps_bA (ps_wr l L B) i = ps_bA B i := by
  intro l
  induction l with
  | nil => intro L B i _; rfl
  | cons b l ih =>
    intro L B i h
    have h : L + (l.length + 1) ≤ i := h
    show ps_bA (ps_wr l (L + 1) (ps_w1 B L b)) i = _
    rw [ih _ _ _ (by omega), ps_w1_n B b (by omega)]
/-- the row holds the list l from L on -/
def ps_Rd (B : Nat → Int32) : Nat → List Bool → Prop
  | _, [] => True
  | L, b :: l => ps_bA B L = b ∧ ps_Rd B (L + 1) l
theorem ps_Rd_app {B : Nat → Int32} : ∀ (l l' : List Bool) (L : Nat), ps_Rd B L (l ++ l') → ps_Rd B L l ∧ ps_Rd B (L + l.length) l' := by
  intro l
  induction l with
  | nil => intro l' L h; exact ⟨trivial, h⟩
  | cons b l ih =>
    intro l' L h
    have h2 : ps_bA B L = b ∧ ps_Rd B (L + 1) (l ++ l') := h
    have ⟨a, c⟩ := ih l' (L + 1) h2.2
    refine ⟨⟨h2.1, a⟩, ?_⟩
    show ps_Rd B (L + (l.length + 1)) l'
    rw [show L + (l.length + 1) = L + 1 + l.length from by omega]
    exact c
theorem ps_Rd_c {B B' : Nat → Int32} : ∀ (l : List Bool) (L : Nat), (∀ i, L ≤ i → i < L + l.length → ps_bA B' i = ps_bA B i) → ps_Rd B L l → ps_Rd B' L l := by
  intro l
  induction l with
  | nil => intro L _ _; trivial
  | cons b l ih =>
    intro L h g
    have g2 : ps_bA B L = b ∧ ps_Rd B (L + 1) l := g
    have h : ∀ i, L ≤ i → i < L + (l.length + 1) → ps_bA B' i = ps_bA B i := h
    exact ⟨(h L (Nat.le_refl L) (by omega)).trans g2.1, ih (L + 1) (fun i h1 h2 => h i (by omega) (by omega)) g2.2⟩
theorem ps_wr_Rd : ∀ (l : List Bool) (L : Nat) (B : Nat → Int32), (∀ i, L ≤ i → i < L + l.length → ps_bA B i = false) → ps_Rd (ps_wr l L B) L l := by
  intro l
  induction l with
  | nil => intro L B _; trivial
  | cons b l ih =>
    intro L B h
    have h : ∀ i, L ≤ i → i < L + (l.length + 1) → ps_bA B i = false := h
    refine ⟨?_, ?_⟩
    · show ps_bA (ps_wr l (L + 1) (ps_w1 B L b)) L = b
      rw [ps_wr_lt _ _ _ _ (by omega), ps_w1_s, h L (Nat.le_refl L) (by omega), Bool.false_or]
    · show ps_Rd (ps_wr l (L + 1) (ps_w1 B L b)) (L + 1) l
      refine ih (L + 1) (ps_w1 B L b) fun i h1 h2 => ?_
      rw [ps_w1_n B b (by omega)]
      exact h i (by omega) (by omega)
/-- the c low bits of v, the highest first -/
def ps_bm (v : Nat) : Nat → List Bool
  | 0 => []
  | c + 1 => v.testBit c :: ps_bm v c
theorem ps_bm_l (v : Nat) : ∀ c, (ps_bm v c).length = c := by
  intro c
  induction c with
  | zero => rfl
  | succ c ih => show (ps_bm v c).length + 1 = c + 1; rw [ih]
/-- the code of m at width n -/
def ps_code (n m : Nat) : List Bool := if m / 2 ^ n < 8 then List.replicate (m / 2 ^ n) true ++ (false :: ps_bm (m % 2 ^ n) n) else List.replicate 8 true ++ ps_bm m 8
theorem ps_code_l {n m : Nat} (h : n ≤ 6) : (ps_code n m).length ≤ 16 := by
  unfold ps_code
  split
  · rw [List.length_append, List.length_replicate, List.length_cons, ps_bm_l]
    omega
  · rw [List.length_append, List.length_replicate, ps_bm_l]
    decide
/-! fold, unfold, adapt: as the component reckons -/
def ps_By (x : Int32) : Prop := ∃ n : Nat, n < 256 ∧ x = nI n
theorem ps_By0 : ps_By 0 := ⟨0, by decide, rfl⟩
theorem ps_By_and (x : Int32) : ps_By (x &&& 255) := pk_andE x (m := 255) 8 (by decide)
theorem ps_and_By {x : Int32} (h : ps_By x) : x &&& 255 = x := by
  obtain ⟨n, hn, rfl⟩ := h
  rw [pk_andN (m := 255) (by omega) 8 (by decide), Nat.mod_eq_of_lt (by omega)]
def ps_fo (d : Int32) : Int32 := if 128 ≤ d then (2 * (255 - d)) + 1 else 2 * d
def ps_uf (f : Int32) : Int32 := if f - f / 2 * 2 = 0 then f / 2 else 255 - f / 2
theorem ps_uf_fo : ∀ n, n < 256 → ps_uf (ps_fo (nI n)) = nI n := by decide +kernel
theorem ps_fo_n : ∀ n, n < 256 → (ps_fo (nI n)).toNatClampNeg < 256 ∧ ps_fo (nI n) = nI (ps_fo (nI n)).toNatClampNeg := by decide +kernel
def ps_a79 (w b : Int32) : Int32 × Int32 := if -4 < b then (w, b) else if w ≤ 0 then (w, b) else (w - 1, 0)
def ps_a44 (w b : Int32) : Int32 × Int32 := if b < 4 then ps_a79 w b else if 6 ≤ w then ps_a79 w b else (w + 1, 0)
def ps_ab (w b f : Int32) : Int32 := if f >>> (w &&& 31) ≤ 1 then (if (f <<< ((1 : Int32) &&& 31)) >>> (w &&& 31) = 0 then b - 1 else b) else b + 2
/-- width and balance behind the number f -/
def ps_ad (w b f : Int32) : Int32 × Int32 := ps_a44 w (ps_ab w b f)
def ps_Wd (w : Int32) : Prop := ∃ n : Nat, n ≤ 6 ∧ w = nI n
theorem ps_a79_W {w b : Int32} (h : ps_Wd w) : ps_Wd (ps_a79 w b).1 := by
  unfold ps_a79
  split
  · exact h
  · split
    · exact h
    · rename_i z
      obtain ⟨n, hn, rfl⟩ := h
      cases n with
      | zero => exact absurd (show nI 0 ≤ 0 from by decide) z
      | succ n => exact ⟨n, by omega, nI_pred n⟩
theorem ps_ad_W {w b f : Int32} (h : ps_Wd w) : ps_Wd (ps_ad w b f).1 := by
  unfold ps_ad ps_a44
  split
  · exact ps_a79_W h
  · split
    · exact ps_a79_W h
    · rename_i z
      obtain ⟨n, hn, rfl⟩ := h
      refine ⟨n + 1, ?_, nI_1 n⟩
      by_cases e : n = 6
      · subst e
        exact absurd (show (6 : Int32) ≤ nI 6 from by decide) z
      · omega
/-! the sending of the picture d: number, width and balance, code and place in the row, of the k-th pixel -/
def ps_df (d : Nat → Int32) (k : Nat) : Int32 := (d (ps_od k) - ps_gs d (ps_od k)) &&& 255
def ps_F (d : Nat → Int32) (k : Nat) : Int32 := ps_fo (ps_df d k)
def ps_wb (d : Nat → Int32) : Nat → Int32 × Int32
  | 0 => (3, 0)
  | k + 1 => ps_ad (ps_wb d k).1 (ps_wb d k).2 (ps_F d k)
def ps_cd (d : Nat → Int32) (k : Nat) : List Bool := ps_code (ps_wb d k).1.toNatClampNeg (ps_F d k).toNatClampNeg
def ps_po (d : Nat → Int32) : Nat → Nat
  | 0 => 0
  | k + 1 => ps_po d k + (ps_cd d k).length
theorem ps_F_n (d : Nat → Int32) (k : Nat) : (ps_F d k).toNatClampNeg < 256 ∧ ps_F d k = nI (ps_F d k).toNatClampNeg := by
  obtain ⟨n, hn, e⟩ := ps_By_and (d (ps_od k) - ps_gs d (ps_od k))
  have h := ps_fo_n n hn
  rw [← e] at h
  exact h
theorem ps_F_uf (d : Nat → Int32) (k : Nat) : ps_uf (ps_F d k) = ps_df d k := by
  obtain ⟨n, hn, e⟩ := ps_By_and (d (ps_od k) - ps_gs d (ps_od k))
  have h := ps_uf_fo n hn
  rw [← e] at h
  exact h
theorem ps_wb_W (d : Nat → Int32) : ∀ k, ps_Wd (ps_wb d k).1 := by
  intro k
  induction k with
  | zero => exact ⟨3, by decide, rfl⟩
  | succ k ih => exact ps_ad_W ih
theorem ps_wb_n (d : Nat → Int32) (k : Nat) : (ps_wb d k).1.toNatClampNeg ≤ 6 ∧ (ps_wb d k).1 = nI (ps_wb d k).1.toNatClampNeg := by
  obtain ⟨n, hn, e⟩ := ps_wb_W d k
  rw [e, nI_clamp (by omega)]
  exact ⟨hn, rfl⟩
theorem ps_cd_l (d : Nat → Int32) (k : Nat) : (ps_cd d k).length ≤ 16 := ps_code_l (ps_wb_n d k).1
theorem ps_po_le (d : Nat → Int32) : ∀ k, ps_po d k ≤ 16 * k := by
  intro k
  induction k with
  | zero => exact Nat.le_refl 0
  | succ k ih =>
    have h := ps_cd_l d k
    show ps_po d k + (ps_cd d k).length ≤ 16 * (k + 1)
    omega
theorem ps_po_mono (d : Nat → Int32) {j : Nat} : ∀ k, j < k → ps_po d j + (ps_cd d j).length ≤ ps_po d k := by
  intro k
  induction k with
  | zero => intro h; exact absurd h (Nat.not_lt_zero _)
  | succ k ih =>
    intro h
    show _ ≤ ps_po d k + (ps_cd d k).length
    by_cases e : j = k
    · subst e; exact Nat.le_refl _
    · have := ih (by omega)
      omega
/-- what was taken away comes back -/
theorem ps_back {g x : Int32} (h : ps_By x) : (g + ((x - g) &&& 255)) &&& 255 = x := by
  obtain ⟨n, hn, rfl⟩ := h
  rw [pk_and (nI n - g) (m := 255) 8 (by decide), pk_and _ (m := 255) 8 (by decide)]
  apply congrArg nI
  rw [Int32.toBitVec_add, BitVec.toNat_add, pk_tn (by omega), Int32.toBitVec_sub, BitVec.toNat_sub, pk_tn (by omega)]
  have := g.toBitVec.isLt
  omega
/-! the sender's invariant, and what the row holds at its end -/
def ps_Sv (d : Nat → Int32) (k : Nat) (B : Nat → Int32) : Prop := (∀ j, j < k → ps_Rd B (ps_po d j) (ps_cd d j)) ∧ (∀ i, ps_po d k ≤ i → i < 1536 → ps_bA B i = false)
theorem ps_Sv0 {d B : Nat → Int32} (h : ∀ j, j < 48 → B j = 0) : ps_Sv d 0 B := by
  refine ⟨fun _ z => absurd z (Nat.not_lt_zero _), fun i _ hi => ?_⟩
  unfold ps_bA
  rw [h _ (by omega), b_0]
theorem ps_SvS {d B : Nat → Int32} {k : Nat} (hk : k < 81) (h : ps_Sv d k B) : ps_Sv d (k + 1) (ps_wr (ps_cd d k) (ps_po d k) B) := by
  have h1 := ps_po_le d k
  have h2 := ps_cd_l d k
  refine ⟨fun j hj => ?_, fun i h3 h4 => ?_⟩
  · by_cases e : j = k
    · subst e
      exact ps_wr_Rd _ _ _ fun i a b => h.2 i a (by omega)
    · have h5 := ps_po_mono d k (show j < k by omega)
      exact ps_Rd_c _ _ (fun i a b => ps_wr_lt _ _ _ _ (by omega)) (h.1 j (by omega))
  · have h3 : ps_po d k + (ps_cd d k).length ≤ i := h3
    rw [ps_wr_ge _ _ _ _ h3]
    exact h.2 i (by omega) h4
end
section
/-! walks: stepOf, the reference's step and place, the picture's borders, foretell, fold, unfold, adapt -/
theorem ps_sof {post : Int32 → Prop} {x y s n : Nat} (hs : 1 < s) (hs2 : s < 2 ^ 31) (hx : x < 2 ^ 31) (hy : y < 2 ^ 31) (h1 : x % s = 0 ∧ y % s = 0 → post (nI s)) (h2 : ¬ (x % s = 0 ∧ y % s = 0) → wX_stepOf_3 post (nI x) (nI y) n (nI (s / 2))) : wX_stepOf_3 post (nI x) (nI y) (n + 1) (nI s) := by
  have h0 : ¬ nI s = 0 := nI_ne0 (by omega) hs2
  have hd : nI s / 2 = nI (s / 2) := pk_div (d := 2) hs2 (by decide) (by decide)
  have h2' : ¬ (2 : Int32) = 0 := by decide
  unfold wX_stepOf_3
  refine pk_le s 1 (fun z => absurd z (by omega)) fun _ => ⟨h0, ?_⟩
  refine pk_eq (x % s) 0 (fun a => ⟨h0, ?_⟩) (fun a => ⟨h2', nm_r hd (h2 (fun z => a z.1))⟩) (hx := pk_rem hx (by omega) hs2) (ha := by have := Nat.mod_le x s; omega)
  exact pk_eq (y % s) 0 (fun b => h1 ⟨a, b⟩) (fun b => ⟨h2', nm_r hd (h2 (fun z => b z.2))⟩) (hx := pk_rem hy (by omega) hs2) (ha := by have := Nat.mod_le y s; omega)
theorem ps_stepOf {post : Int32 → Prop} {x y : Nat} (hx : x < 2 ^ 31) (hy : y < 2 ^ 31) (h : post (nI (ps_s8 x y))) : wpX_stepOf post (nI x) (nI y) := by
  refine ⟨4, ?_⟩
  show wX_stepOf_3 post (nI x) (nI y) 4 (nI 8)
  refine ps_sof (by decide) (by decide) hx hy (fun a => ?_) fun a => ?_
  · rw [ps_s8, if_pos a] at h
    exact h
  rw [ps_s8, if_neg a] at h
  show wX_stepOf_3 post (nI x) (nI y) 3 (nI 4)
  refine ps_sof (by decide) (by decide) hx hy (fun a => ?_) fun a => ?_
  · rw [ps_s4, if_pos a] at h
    exact h
  rw [ps_s4, if_neg a] at h
  show wX_stepOf_3 post (nI x) (nI y) 2 (nI 2)
  refine ps_sof (by decide) (by decide) hx hy (fun a => ?_) fun a => ?_
  · rw [ps_s2, if_pos a] at h
    exact h
  rw [ps_s2, if_neg a] at h
  show wX_stepOf_3 post (nI x) (nI y) 1 (nI 1)
  exact br_t (show nI 1 ≤ 1 from by decide) h
/-! the reference -/
theorem ps_y41 {post : Int32 → Prop} {x y : Nat} (hx : x < 2 ^ 31) (hy : y < 2 ^ 31) (h : post (nI (ps_s2 x y))) : wY_step_41 post (nI x) (nI y) := by
  unfold ps_s2 at h
  unfold wY_step_41
  refine ⟨by decide, ?_⟩
  refine pk_eq (x % 2) 0 (fun a => ⟨by decide, ?_⟩) (fun a => ?_) (hx := pk_rem (d := 2) hx (by decide) (by decide))
  · refine pk_eq (y % 2) 0 (fun b => ?_) (fun b => ?_) (hx := pk_rem (d := 2) hy (by decide) (by decide))
    · rw [if_pos ⟨a, b⟩] at h
      exact h
    · rw [if_neg (fun z => b z.2)] at h
      exact h
  · rw [if_neg (fun z => a z.1)] at h
    exact h
theorem ps_y27 {post : Int32 → Prop} {x y : Nat} (hx : x < 2 ^ 31) (hy : y < 2 ^ 31) (h : post (nI (ps_s4 x y))) : wY_step_27 post (nI x) (nI y) := by
  unfold ps_s4 at h
  unfold wY_step_27
  refine ⟨by decide, ?_⟩
  refine pk_eq (x % 4) 0 (fun a => ⟨by decide, ?_⟩) (fun a => ?_) (hx := pk_rem (d := 4) hx (by decide) (by decide))
  · refine pk_eq (y % 4) 0 (fun b => ?_) (fun b => ?_) (hx := pk_rem (d := 4) hy (by decide) (by decide))
    · rw [if_pos ⟨a, b⟩] at h
      exact h
    · rw [if_neg (fun z => b z.2)] at h
      exact ps_y41 hx hy h
  · rw [if_neg (fun z => a z.1)] at h
    exact ps_y41 hx hy h
theorem ps_yst {post : Int32 → Prop} {i : Nat} (hi : i < 81) (h : post (nI (ps_st i))) : wpY_step post (nI i) := by
  unfold ps_st ps_s8 at h
  unfold wpY_step
  refine ⟨by decide, nm_r (pk_rem (d := 9) (by omega) (by decide) (by decide)) ⟨by decide, nm_r (pk_div (d := 9) (by omega) (by decide) (by decide)) ⟨by decide, ?_⟩⟩⟩
  refine pk_eq (i % 9 % 8) 0 (fun a => ⟨by decide, ?_⟩) (fun a => ?_) (hx := pk_rem (d := 8) (by omega) (by decide) (by decide))
  · refine pk_eq (i / 9 % 8) 0 (fun b => ?_) (fun b => ?_) (hx := pk_rem (d := 8) (by omega) (by decide) (by decide))
    · rw [if_pos ⟨a, b⟩] at h
      exact h
    · rw [if_neg (fun z => b z.2)] at h
      exact ps_y27 (by omega) (by omega) h
  · rw [if_neg (fun z => a z.1)] at h
    exact ps_y27 (by omega) (by omega) h
theorem ps_plS_t {i j : Nat} (h : ps_st i < ps_st j ∨ (ps_st j = ps_st i ∧ j < i)) : ps_pl i (j + 1) = ps_pl i j + 1 := by
  show ps_pl i j + (if ps_st i < ps_st j ∨ (ps_st j = ps_st i ∧ j < i) then 1 else 0) = _
  rw [if_pos h]
theorem ps_plS_f {i j : Nat} (h : ¬ (ps_st i < ps_st j ∨ (ps_st j = ps_st i ∧ j < i))) : ps_pl i (j + 1) = ps_pl i j := by
  show ps_pl i j + (if ps_st i < ps_st j ∨ (ps_st j = ps_st i ∧ j < i) then 1 else 0) = _
  rw [if_neg h]
  rfl
theorem ps_yp9 {post : Int32 → Prop} {i : Nat} (hi : i < 81) (h : post (nI (ps_pl i 81))) : ∀ d j n : Nat, j + d = 81 → d < n → wY_place_9 post (nI i) (nI (ps_st i)) n (nI (ps_pl i j)) (nI j) := by
  intro d
  induction d with
  | zero =>
    intro j n hj hn
    obtain ⟨n, rfl⟩ : ∃ m, n = m + 1 := ⟨n - 1, by omega⟩
    have hj : j = 81 := hj
    subst hj
    unfold wY_place_9
    exact br_t (show (81 : Int32) ≤ nI 81 from by decide) h
  | succ d ih =>
    intro j n hj hn
    obtain ⟨n, rfl⟩ : ∃ m, n = m + 1 := ⟨n - 1, by omega⟩
    have ri := ps_st_r i
    have rj := ps_st_r j
    have IH := ih (j + 1) n (by omega) (by omega)
    unfold wY_place_9
    refine pk_le 81 j (fun z => absurd z (by omega)) fun _ => ps_yst (by omega) ?_
    refine pk_lt (ps_st i) (ps_st j) (fun a => ?_) (fun a => pk_eq (ps_st j) (ps_st i) (fun b => pk_le i j (fun c => ?_) (fun c => ?_)) (fun b => ?_))
    · rw [ps_plS_t (Or.inl a)] at IH
      exact nm_r (nI_1 _) (nm_r (nI_1 _) IH)
    · rw [ps_plS_f (by omega)] at IH
      exact nm_r (nI_1 _) IH
    · rw [ps_plS_t (Or.inr ⟨b, c⟩)] at IH
      exact nm_r (nI_1 _) (nm_r (nI_1 _) IH)
    · rw [ps_plS_f (by omega)] at IH
      exact nm_r (nI_1 _) IH
theorem ps_place {post : Int32 → Prop} {i : Nat} (hi : i < 81) (h : post (nI (ps_rk i))) : wpY_place post (nI i) := by
  rw [← ps_pl_81 i hi] at h
  unfold wpY_place
  exact ps_yst hi ⟨82, ps_yp9 hi h 81 0 82 rfl (by decide)⟩
/-! the borders -/
def ps_Out (p q : Int32) : Prop := p < 0 ∨ 8 < p ∨ q < 0 ∨ 8 < q
theorem ps_io (p q : Int32) : ps_Out p q ∨ ∃ x y : Nat, x < 9 ∧ y < 9 ∧ p = nI x ∧ q = nI y := by
  by_cases h1 : p < 0
  · exact Or.inl (Or.inl h1)
  by_cases h2 : 8 < p
  · exact Or.inl (Or.inr (Or.inl h2))
  by_cases h3 : q < 0
  · exact Or.inl (Or.inr (Or.inr (Or.inl h3)))
  by_cases h4 : 8 < q
  · exact Or.inl (Or.inr (Or.inr (Or.inr h4)))
  obtain ⟨x, hx, ex⟩ := nI_of2 (M := 8) (n := 8) (by decide) h1 (Int32.not_lt.mp h2)
  obtain ⟨y, hy, ey⟩ := nI_of2 (M := 8) (n := 8) (by decide) h3 (Int32.not_lt.mp h4)
  exact Or.inr ⟨x, y, by omega, by omega, ex, ey⟩
theorem ps_xout {post : Int32 → Prop} {p q : Int32} (o : ps_Out p q) (h : post 0) : wpX_inPicture post p q := by
  unfold wpX_inPicture
  refine br_c (fun _ => h) fun a => br_c (fun _ => h) fun b => br_c (fun _ => h) fun c => br_c (fun _ => h) fun d => ?_
  rcases o with z | z | z | z
  · exact absurd z a
  · exact absurd z b
  · exact absurd z c
  · exact absurd z d
theorem ps_yout {post : Int32 → Prop} {p q : Int32} (o : ps_Out p q) (h : post 1) : wpY_off post p q := by
  unfold wpY_off
  refine br_c (fun _ => h) fun a => br_c (fun _ => h) fun b => br_c (fun _ => h) fun c => br_c (fun d => ?_) fun _ => h
  rcases o with z | z | z | z
  · exact absurd z a
  · exact absurd z b
  · exact absurd z c
  · exact absurd z (Int32.not_lt.mpr d)
theorem ps_xin {post : Int32 → Prop} {x y : Nat} (hx : x < 9) (hy : y < 9) (h : post 1) : wpX_inPicture post (nI x) (nI y) := by
  unfold wpX_inPicture
  exact br_f (nI_pos (by omega)) (br_f (fun z => absurd ((nI_ltI (a := 8) (b := x) (by decide) (by omega)).mp z) (by omega)) (br_f (nI_pos (by omega)) (br_f (fun z => absurd ((nI_ltI (a := 8) (b := y) (by decide) (by omega)).mp z) (by omega)) h)))
theorem ps_yin {post : Int32 → Prop} {x y : Nat} (hx : x < 9) (hy : y < 9) (h : post 0) : wpY_off post (nI x) (nI y) := by
  unfold wpY_off
  exact br_f (nI_pos (by omega)) (br_f (fun z => absurd ((nI_ltI (a := 8) (b := x) (by decide) (by omega)).mp z) (by omega)) (br_f (nI_pos (by omega)) (br_t (nI_le (a := y) (b := 8) (by omega) (by decide)) h)))
theorem ps_ix (x y : Nat) : 9 * nI y + nI x = nI (9 * y + x) := by
  show nI 9 * nI y + nI x = _
  rw [pk_mul, nI_add]
end
section
/-! walks: foretell, fold, unfold, adapt -/
def ps_pic (s : Int32) (D C : Nat → Int32) : Nat → Int32 := if s = 0 then C else D
section
variable {post : Int32 → Prop} {fs fl fa fr fw fb : Int32} {D B C O R : Nat → Int32}
theorem ps_pf {q : Nat} {x s : Int32} (hq : q < 81) (hx : x = nI q) (h : post (ps_pic s D C q)) : wpX_pixelFor post (fs, fl, fa, fr, fw, fb, D, B, C, O, R) x s := by
  subst hx
  have hi : vp_in (nI q) 81 := vp_in_nI hq (by decide)
  have hc : (nI q).toNatClampNeg = q := nI_clamp (by omega)
  unfold wpX_pixelFor
  dsimp only
  rw [hc]
  by_cases z : s = 0
  · rw [ps_pic, if_pos z] at h
    exact br_t z ⟨hi, h⟩
  · rw [ps_pic, if_neg z] at h
    exact br_f z ⟨hi, h⟩
theorem ps_f194 {p e : Nat} {s z : Int32} (hz : z = nI e) (h1 : e ≤ p) (h2 : p + e < 81) (h : post (((ps_pic s D C (p - e) + ps_pic s D C (p + e)) + 1) / 2)) : wX_foretell_194 post (nI p) s z fs fl fa fr fw fb D B C O R := by
  subst hz
  unfold wX_foretell_194
  exact ps_pf (q := p - e) (by omega) (pk_sub h1) (ps_pf (q := p + e) h2 (nI_add p e) ⟨by decide, h⟩)
theorem ps_f4 {p t : Nat} {s : Int32} (h1 : 9 * t + t ≤ p) (h2 : p + 9 * t + t < 81) (h : post ((((ps_pic s D C (p - 9 * t - t) + ps_pic s D C (p - 9 * t + t)) + (ps_pic s D C (p + 9 * t - t) + ps_pic s D C (p + 9 * t + t))) + 2) / 4)) : wX_foretell_91 post (nI p) s (nI t) 1 1 fs fl fa fr fw fb D B C O R := by
  have e9 : 9 * nI t = nI (9 * t) := pk_mul 9 t
  have e1 : nI p - 9 * nI t - nI t = nI (p - 9 * t - t) := by rw [e9, pk_sub (by omega), pk_sub (by omega)]
  have e2 : nI p - 9 * nI t + nI t = nI (p - 9 * t + t) := by rw [e9, pk_sub (by omega), nI_add]
  have e3 : nI p + 9 * nI t - nI t = nI (p + 9 * t - t) := by rw [e9, nI_add, pk_sub (by omega)]
  have e4 : nI p + 9 * nI t + nI t = nI (p + 9 * t + t) := by rw [e9, nI_add, nI_add]
  have n1 : ¬ (1 : Int32) = 0 := by decide
  unfold wX_foretell_91
  refine br_f n1 (br_f n1 ?_)
  exact ps_pf (by omega) e1 (ps_pf (by omega) e2 (nm_e (ps_pf (by omega) e3 (ps_pf (by omega) e4 (nm_e ⟨by decide, h⟩)))))
theorem ps_f74 {p : Nat} {s : Int32} (hp : p < 81) (h8 : ps_st p ≠ 8) (h : post (ps_gs (ps_pic s D C) p)) : wX_foretell_74 post (nI p) s (nI (p / 9)) (nI (ps_st p)) (if p % 9 % (2 * ps_st p) = 0 then 0 else 1) fs fl fa fr fw fb D B C O R := by
  have hr := ps_st_r p
  have e2 : 2 * nI (ps_st p) = nI (2 * ps_st p) := pk_mul 2 _
  have e9 : 9 * nI (ps_st p) = nI (9 * ps_st p) := pk_mul 9 _
  have n1 : ¬ (1 : Int32) = 0 := by decide
  unfold wX_foretell_74
  rw [e2]
  refine ⟨nI_ne0 (by omega) (by omega), ?_⟩
  unfold ps_gs at h
  rw [if_neg h8] at h
  refine pk_eq (p / 9 % (2 * ps_st p)) 0 (fun b => ?_) (fun b => ?_) (hx := pk_rem (by omega) (by omega) (by omega)) (ha := by have := Nat.mod_le (p / 9) (2 * ps_st p); omega)
  · have ⟨a1, a2⟩ := ps_nb2 p hp h8 (Or.inr b)
    rw [if_neg (fun z => z.2 b)] at h
    by_cases a : p % 9 % (2 * ps_st p) = 0
    · have er : ps_re p = 9 * ps_st p := if_pos a
      rw [er] at a1 a2 h
      rw [if_pos a]
      unfold wX_foretell_91
      refine br_t rfl ?_
      unfold wX_foretell_179
      exact br_t rfl (ps_f194 e9 a1 a2 h)
    · have er : ps_re p = ps_st p := if_neg a
      rw [er] at a1 a2 h
      rw [if_neg a]
      unfold wX_foretell_91
      refine br_f n1 (br_t rfl ?_)
      unfold wX_foretell_179
      exact br_f n1 (ps_f194 rfl a1 a2 h)
  · by_cases a : p % 9 % (2 * ps_st p) = 0
    · have ⟨a1, a2⟩ := ps_nb2 p hp h8 (Or.inl a)
      have er : ps_re p = 9 * ps_st p := if_pos a
      rw [if_neg (fun z => z.1 a)] at h
      rw [er] at a1 a2 h
      rw [if_pos a]
      unfold wX_foretell_91
      refine br_t rfl ?_
      unfold wX_foretell_179
      exact br_t rfl (ps_f194 e9 a1 a2 h)
    · have ⟨a1, a2⟩ := ps_nb4 p hp h8 a b
      rw [if_pos ⟨a, b⟩] at h
      rw [if_neg a]
      exact ps_f4 a1 a2 h
theorem ps_tell {p : Nat} {s : Int32} (hp : p < 81) (hO : ∀ j, j < 81 → O j = nI (ps_od j)) (hR : ∀ q, q < 81 → R q = nI (ps_rk q)) (h : post (ps_gs (ps_pic s D C) p)) : wpX_foretell post (fs, fl, fa, fr, fw, fb, D, B, C, O, R) (nI p) s := by
  have hr := ps_st_r p
  have hk := ps_rk_lt p hp
  have e2 : 2 * nI (ps_st p) = nI (2 * ps_st p) := pk_mul 2 _
  have hc : (nI p).toNatClampNeg = p := nI_clamp (by omega)
  have hi : vp_in (nI p) 81 := vp_in_nI hp (by decide)
  unfold wpX_foretell
  dsimp only
  rw [hc, hR p hp]
  refine ⟨by decide, nm_r (pk_rem (d := 9) (by omega) (by decide) (by decide)) ⟨by decide, nm_r (pk_div (d := 9) (by omega) (by decide) (by decide)) ?_⟩⟩
  refine ps_stepOf (by omega) (by omega) ?_
  show _ ∧ _
  refine pk_eq (ps_st p) 8 (fun h8 => ⟨hi, ?_⟩) (fun h8 => ?_)
  · unfold ps_gs at h
    rw [if_pos h8] at h
    refine pk_eq (ps_rk p) 0 (fun h0 => ?_) (fun h0 => ⟨hi, ?_⟩)
    · rw [if_pos h0] at h
      exact h
    · rw [if_neg h0] at h
      have e1 : nI (ps_rk p) - 1 = nI (ps_rk p - 1) := pk_sub (b := 1) (by omega)
      rw [e1, nI_clamp (by omega), hO _ (by omega)]
      exact ⟨vp_in_nI (by omega) (by decide), ps_pf (ps_od_lt _ (by omega)) rfl h⟩
  · have K := ps_f74 (post := post) (fs := fs) (fl := fl) (fa := fa) (fr := fr) (fw := fw) (fb := fb) (B := B) (O := O) (R := R) hp h8 h
    show _ ∧ _
    have hz : ¬ 2 * nI (ps_st p) = 0 := by rw [e2]; exact nI_ne0 (by omega) (by omega)
    refine ⟨hz, ?_⟩
    refine pk_eq (p % 9 % (2 * ps_st p)) 0 (fun a => ?_) (fun a => ?_) (hx := by show nI (p % 9) - nI (p % 9) / (2 * nI (ps_st p)) * (2 * nI (ps_st p)) = _; rw [e2]; exact pk_rem (by omega) (by omega) (by omega)) (ha := by have := Nat.mod_le (p % 9) (2 * ps_st p); omega)
    · rw [if_pos a] at K
      exact K
    · rw [if_neg a] at K
      exact K
theorem ps_fold {x : Int32} (h : post (ps_fo x)) : wpX_fold post x := by
  unfold wpX_fold
  unfold ps_fo at h
  refine br_c (fun z => ?_) fun z => ?_
  · rw [if_pos z] at h
    exact h
  · rw [if_neg z] at h
    exact h
theorem ps_unf {x : Int32} (h : post (ps_uf x)) : wpX_unfold post x := by
  unfold wpX_unfold
  unfold ps_uf at h
  refine ⟨by decide, br_c (fun z => ⟨by decide, ?_⟩) fun z => ⟨by decide, ?_⟩⟩
  · rw [if_pos z] at h
    exact h
  · rw [if_neg z] at h
    exact h
end
section
variable {post : SX → Prop} {fs fl fa fr w b : Int32} {D B C O R : Nat → Int32}
theorem ps_w79 (h : post (fs, fl, fa, fr, (ps_a79 w b).1, (ps_a79 w b).2, D, B, C, O, R)) : wX_adapt_79 post fs fl fa fr w b D B C O R := by
  unfold wX_adapt_79
  unfold ps_a79 at h
  refine br_c (fun z => ?_) fun z => br_c (fun z2 => ?_) fun z2 => nm_e ?_
  · rw [if_pos z] at h
    exact h
  · rw [if_neg z, if_pos z2] at h
    exact h
  · rw [if_neg z, if_neg z2] at h
    exact h
theorem ps_w44 (h : post (fs, fl, fa, fr, (ps_a44 w b).1, (ps_a44 w b).2, D, B, C, O, R)) : wX_adapt_44 post fs fl fa fr w b D B C O R := by
  unfold wX_adapt_44
  unfold ps_a44 at h
  refine br_c (fun z => ps_w79 ?_) fun z => br_c (fun z2 => ps_w79 ?_) fun z2 => nm_e ?_
  · rw [if_pos z] at h
    exact h
  · rw [if_neg z, if_pos z2] at h
    exact h
  · rw [if_neg z, if_neg z2] at h
    exact h
theorem ps_adapt {f : Int32} (h : post (fs, fl, fa, fr, (ps_ad w b f).1, (ps_ad w b f).2, D, B, C, O, R)) : wpX_adapt post (fs, fl, fa, fr, w, b, D, B, C, O, R) f := by
  unfold wpX_adapt
  dsimp only
  unfold ps_ad ps_ab at h
  refine br_c (fun z => br_c (fun z2 => nm_e (ps_w44 ?_)) fun z2 => ps_w44 ?_) fun z => nm_e (ps_w44 ?_)
  · rw [if_pos z, if_pos z2] at h
    exact h
  · rw [if_pos z, if_neg z2] at h
    exact h
  · rw [if_neg z] at h
    exact h
end
end
section
/-! walks: writing and reading bits, numbers, codes -/
section
variable {post : SX → Prop} {fs fa fr fw fb : Int32} {D B C O R : Nat → Int32}
theorem ps_ix5 {L : Nat} (h : L < 1536) : nI L >>> ((5 : Int32) &&& 31) = nI (L / 32) := pk_shrN (by omega) _ 5 (by decide)
theorem ps_m5 {L : Nat} (h : L < 1536) : nI L &&& 31 = nI (L % 32) := pk_andN (m := 31) (by omega) 5 (by decide)
theorem ps_writeBit {L : Nat} {x : Int32} (b : Bool) (hL : L < 1536) (hx : x = ps_bI b) (h : post (fs, nI (L + 1), fa, fr, fw, fb, D, ps_w1 B L b, C, O, R)) : wpX_writeBit post (fs, nI L, fa, fr, fw, fb, D, B, C, O, R) x := by
  subst hx
  have hi : vp_in (nI (L / 32)) 48 := vp_in_nI (by omega) (by decide)
  unfold wpX_writeBit
  dsimp only
  rw [ps_ix5 hL, ps_m5 hL, nI_clamp (show L / 32 < 2 ^ 31 by omega)]
  exact ⟨hi, hi, nm_e (nm_r (nI_1 L) h)⟩
theorem ps_tb {v c : Nat} (hv : v < 2 ^ 32) (hc : c < 32) : ((nI v).toUInt32 >>> ((nI c).toUInt32 &&& Int32.toUInt32 31)).toInt32 &&& 1 = ps_bI (v.testBit c) := by
  have h1 : v / 2 ^ c ≤ v := Nat.div_le_self _ _
  rw [pk_ushrN hv _ c (s_u c hc), pk_andN (m := 1) (by omega) 1 (by decide), ps_bI_n, Nat.testBit_eq_decide_div_mod_eq]
  apply congrArg nI
  show v / 2 ^ c % 2 = _
  have h2 : v / 2 ^ c % 2 < 2 := Nat.mod_lt _ (by decide)
  generalize v / 2 ^ c % 2 = z at h2
  match z, h2 with
  | 0, _ => rfl
  | 1, _ => rfl
theorem ps_wB4 {v : Nat} (hv : v < 2 ^ 32) : ∀ (c n L : Nat) (B : Nat → Int32), c ≤ 32 → c < n → L + c ≤ 1536 → post (fs, nI (L + c), fa, fr, fw, fb, D, ps_wr (ps_bm v c) L B, C, O, R) → wX_writeBits_4 post (nI v) n (nI c - 1) fs (nI L) fa fr fw fb D B C O R := by
  intro c
  induction c with
  | zero =>
    intro n L B _ hn _ h
    obtain ⟨n, rfl⟩ : ∃ m, n = m + 1 := ⟨n - 1, by omega⟩
    unfold wX_writeBits_4
    exact br_t (show nI 0 - 1 < 0 from by decide) h
  | succ c ih =>
    intro n L B hc hn hL h
    obtain ⟨n, rfl⟩ : ∃ m, n = m + 1 := ⟨n - 1, by omega⟩
    rw [nI_pred]
    unfold wX_writeBits_4
    refine br_f (nI_pos (by omega)) (ps_writeBit (v.testBit c) (by omega) (ps_tb hv (by omega)) ?_)
    refine nm_r (Int32.sub_eq_add_neg _ _).symm (ih n (L + 1) (ps_w1 B L (v.testBit c)) (by omega) (by omega) (by omega) ?_)
    rw [show L + 1 + c = L + (c + 1) from by omega]
    exact h
theorem ps_writeBits {v c L : Nat} {x y : Int32} (hx : x = nI v) (hy : y = nI c) (hv : v < 2 ^ 32) (hc : c ≤ 32) (hL : L + c ≤ 1536) (h : post (fs, nI (L + c), fa, fr, fw, fb, D, ps_wr (ps_bm v c) L B, C, O, R)) : wpX_writeBits post (fs, nI L, fa, fr, fw, fb, D, B, C, O, R) x y := by
  subst hx hy
  unfold wpX_writeBits
  dsimp only
  exact nm_e ⟨c + 1, ps_wB4 hv c (c + 1) L B hc (by omega) hL h⟩
theorem ps_msk : ∀ n, n < 7 → (((1 : Int32) <<< (nI n &&& 31)) - 1).toBitVec.toNat = 2 ^ n - 1 := by decide +kernel
theorem ps_wC31 {n m L : Nat} (hn : n ≤ 6) (hm : m < 256) (hL : L + 16 ≤ 1536) (h : post (fs, nI (L + (if m / 2 ^ n < 8 then (false :: ps_bm (m % 2 ^ n) n) else ps_bm m 8).length), fa, fr, nI n, fb, D, ps_wr (if m / 2 ^ n < 8 then (false :: ps_bm (m % 2 ^ n) n) else ps_bm m 8) L B, C, O, R)) : wX_writeCode_31 post (nI m) (nI (m / 2 ^ n)) fs (nI L) fa fr (nI n) fb D B C O R := by
  have h1 : m / 2 ^ n ≤ m := Nat.div_le_self _ _
  have h2 : m % 2 ^ n ≤ m := Nat.mod_le _ _
  unfold wX_writeCode_31
  refine pk_lt (m / 2 ^ n) 8 (fun z => ?_) fun z => ?_
  · rw [if_pos z] at h
    refine ps_writeBit false (by omega) rfl ?_
    refine ps_writeBits (v := m % 2 ^ n) (c := n) (pk_andN (by omega) n (ps_msk n (by omega))) rfl (by omega) (by omega) (by omega) ?_
    have e : L + 1 + n = L + (false :: ps_bm (m % 2 ^ n) n).length := by
      show L + 1 + n = L + ((ps_bm (m % 2 ^ n) n).length + 1)
      rw [ps_bm_l]
      omega
    rw [e]
    exact h
  · rw [if_neg (by omega)] at h
    refine ps_writeBits (v := m) (c := 8) rfl rfl (by omega) (by omega) (by omega) ?_
    rw [ps_bm_l] at h
    exact h
theorem ps_wC9 {n m : Nat} (hm : m < 256) {Q : Nat} (hQ : (m / 2 ^ n < 8 ∧ Q = m / 2 ^ n) ∨ (8 ≤ m / 2 ^ n ∧ Q = 8)) : ∀ (d k f L : Nat) (B : Nat → Int32), k + d = Q → d < f → L + d ≤ 1536 → wX_writeCode_31 post (nI m) (nI (m / 2 ^ n)) fs (nI (L + d)) fa fr (nI n) fb D (ps_wr (List.replicate d true) L B) C O R → wX_writeCode_9 post (nI m) (nI (m / 2 ^ n)) f (nI k) fs (nI L) fa fr (nI n) fb D B C O R := by
  have h1 : m / 2 ^ n ≤ m := Nat.div_le_self _ _
  intro d
  induction d with
  | zero =>
    intro k f L B hk hf _ h
    obtain ⟨f, rfl⟩ : ∃ m, f = m + 1 := ⟨f - 1, by omega⟩
    unfold wX_writeCode_9
    exact pk_le 8 k (fun _ => h) fun z => pk_le (m / 2 ^ n) k (fun _ => h) fun z2 => absurd z2 (by omega)
  | succ d ih =>
    intro k f L B hk hf hL h
    obtain ⟨f, rfl⟩ : ∃ m, f = m + 1 := ⟨f - 1, by omega⟩
    unfold wX_writeCode_9
    refine pk_le 8 k (fun z => absurd z (by omega)) fun z => pk_le (m / 2 ^ n) k (fun z2 => absurd z2 (by omega)) fun z2 => ?_
    refine ps_writeBit true (by omega) rfl (nm_r (nI_1 k) (ih (k + 1) f (L + 1) (ps_w1 B L true) (by omega) (by omega) (by omega) ?_))
    rw [show L + 1 + d = L + (d + 1) from by omega]
    exact h
theorem ps_writeCode {n m L : Nat} (hn : n ≤ 6) (hm : m < 256) (hL : L + 24 ≤ 1536) (h : post (fs, nI (L + (ps_code n m).length), fa, fr, nI n, fb, D, ps_wr (ps_code n m) L B, C, O, R)) : wpX_writeCode post (fs, nI L, fa, fr, nI n, fb, D, B, C, O, R) (nI m) := by
  have h1 : m / 2 ^ n ≤ m := Nat.div_le_self _ _
  unfold wpX_writeCode
  dsimp only
  refine nm_r (e' := nI (m / 2 ^ n)) (pk_shrN (by omega) _ n (s_l n (by omega))) ⟨9, ?_⟩
  unfold ps_code at h
  by_cases z : m / 2 ^ n < 8
  · refine ps_wC9 (Q := m / 2 ^ n) hm (Or.inl ⟨z, rfl⟩) (m / 2 ^ n) 0 9 L B (by omega) (by omega) (by omega) (ps_wC31 hn hm (by omega) ?_)
    rw [if_pos z, ps_wr_app, List.length_append, List.length_replicate, ← Nat.add_assoc] at h
    rw [if_pos z]
    exact h
  · refine ps_wC9 (Q := 8) hm (Or.inr ⟨by omega, rfl⟩) 8 0 9 L B (by omega) (by omega) (by omega) (ps_wC31 hn hm (by omega) ?_)
    rw [if_neg z, ps_wr_app, List.length_append, List.length_replicate, ← Nat.add_assoc] at h
    rw [if_neg z]
    exact h
end
section
variable {post : Int32 → SX → Prop} {fs fl fr fw fb : Int32} {D B C O R : Nat → Int32}
theorem ps_rb (B : Nat → Int32) (L : Nat) : ((B (L / 32)).toUInt32 >>> ((nI (L % 32)).toUInt32 &&& Int32.toUInt32 31)).toInt32 &&& 1 = ps_bI (ps_bA B L) := by
  apply b_ext
  intro i hi
  rw [b_and, b_ushr _ (by omega), ps_bI_bt _ _ hi, show bt 1 i = decide (i = 0) from (by decide +kernel : ∀ i, i < 32 → bt 1 i = decide (i = 0)) i hi]
  by_cases z : i = 0
  · subst z
    simp [ps_bA]
  · simp [z]
theorem ps_readBit {L : Nat} (hL : L < 1536) (h : post (ps_bI (ps_bA B L)) (fs, fl, nI (L + 1), fr, fw, fb, D, B, C, O, R)) : wpX_readBit post (fs, fl, nI L, fr, fw, fb, D, B, C, O, R) := by
  have hi : vp_in (nI (L / 32)) 48 := vp_in_nI (by omega) (by decide)
  unfold wpX_readBit
  dsimp only
  rw [ps_ix5 hL, ps_m5 hL, nI_clamp (show L / 32 < 2 ^ 31 by omega), ps_rb]
  exact ⟨hi, nm_e (nm_r (nI_1 L) h)⟩
theorem ps_acc (a v c : Nat) : (2 * a + (v.testBit c).toNat) * 2 ^ c + v % 2 ^ c = a * 2 ^ (c + 1) + v % 2 ^ (c + 1) := by
  have e : (v.testBit c).toNat = v / 2 ^ c % 2 := by
    rw [Nat.testBit_eq_decide_div_mod_eq]
    have h2 : v / 2 ^ c % 2 < 2 := Nat.mod_lt _ (by decide)
    generalize v / 2 ^ c % 2 = z at h2
    match z, h2 with
    | 0, _ => rfl
    | 1, _ => rfl
  rw [Nat.mod_pow_succ, e, Nat.pow_succ, Nat.add_mul]
  generalize v / 2 ^ c % 2 = t
  generalize v % 2 ^ c = s
  generalize 2 ^ c = r
  grind
theorem ps_rB4 {v c : Nat} (hc : c < 2 ^ 30) : ∀ (d t f L a : Nat), t + d = c → d < f → L + d ≤ 1536 → ps_Rd B L (ps_bm v d) → post (nI (a * 2 ^ d + v % 2 ^ d)) (fs, fl, nI (L + d), fr, fw, fb, D, B, C, O, R) → wX_readBits_4 post (nI c) f (nI a) (nI t) fs fl (nI L) fr fw fb D B C O R := by
  intro d
  induction d with
  | zero =>
    intro t f L a ht hf _ _ h
    obtain ⟨f, rfl⟩ : ∃ m, f = m + 1 := ⟨f - 1, by omega⟩
    unfold wX_readBits_4
    refine pk_le c t (fun _ => ?_) fun z => absurd z (by omega)
    rw [Nat.pow_zero, Nat.mod_one, Nat.mul_one] at h
    exact h
  | succ d ih =>
    intro t f L a ht hf hL g h
    obtain ⟨f, rfl⟩ : ∃ m, f = m + 1 := ⟨f - 1, by omega⟩
    have g2 : ps_bA B L = v.testBit d ∧ ps_Rd B (L + 1) (ps_bm v d) := g
    unfold wX_readBits_4
    refine pk_le c t (fun z => absurd z (by omega)) fun _ => ps_readBit (by omega) ?_
    have e : 2 * nI a + ps_bI (ps_bA B L) = nI (2 * a + (v.testBit d).toNat) := by
      rw [ps_bI_n, g2.1]
      show nI 2 * nI a + _ = _
      rw [pk_mul, nI_add]
    refine nm_r e (nm_r (nI_1 t) (ih (t + 1) f (L + 1) _ (by omega) (by omega) (by omega) g2.2 ?_))
    rw [ps_acc, show L + 1 + d = L + (d + 1) from by omega]
    exact h
theorem ps_readBits {v c L : Nat} {x : Int32} (hx : x = nI c) (hc : c < 2 ^ 30) (hL : L + c ≤ 1536) (g : ps_Rd B L (ps_bm v c)) (h : post (nI (v % 2 ^ c)) (fs, fl, nI (L + c), fr, fw, fb, D, B, C, O, R)) : wpX_readBits post (fs, fl, nI L, fr, fw, fb, D, B, C, O, R) x := by
  subst hx
  unfold wpX_readBits
  dsimp only
  refine ⟨c + 1, ps_rB4 (v := v) hc c 0 (c + 1) L 0 (by omega) (by omega) hL g ?_⟩
  rw [Nat.zero_mul, Nat.zero_add]
  exact h
theorem ps_rC6 (K : List Bool) : ∀ (d t f L : Nat), t + d ≤ 8 → L + d ≤ 1536 → ps_Rd B L (List.replicate d true ++ K) → wX_readCode_6 post f (nI (t + d)) 1 (nI (t + d)) fs fl (nI (L + d)) fr fw fb D B C O R → wX_readCode_6 post (f + d) (nI t) 1 (nI t) fs fl (nI L) fr fw fb D B C O R := by
  intro d
  induction d with
  | zero => intro t f L _ _ _ h; exact h
  | succ d ih =>
    intro t f L ht hL g h
    have g2 : ps_bA B L = true ∧ ps_Rd B (L + 1) (List.replicate d true ++ K) := g
    have n1 : ¬ (1 : Int32) = 0 := by decide
    rw [show f + (d + 1) = (f + d) + 1 from rfl]
    unfold wX_readCode_6
    refine pk_le 8 t (fun z => absurd z (by omega)) fun _ => br_f n1 (ps_readBit (by omega) ?_)
    rw [g2.1]
    refine br_t rfl (nm_r (e' := nI (t + 1)) (nI_1 t) (nm_r (nI_1 t) (ih (t + 1) f (L + 1) (by omega) (by omega) g2.2 ?_)))
    rw [show t + 1 + d = t + (d + 1) from by omega, show L + 1 + d = L + (d + 1) from by omega]
    exact h
theorem ps_rC45 {n m L : Nat} (hn : n ≤ 6) (hm : m < 256) (hL : L + n ≤ 1536) (g : ps_Rd B L (ps_bm (m % 2 ^ n) n)) (h : post (nI m) (fs, fl, nI (L + n), fr, nI n, fb, D, B, C, O, R)) : wX_readCode_45 post (nI (m / 2 ^ n)) 0 fs fl (nI L) fr (nI n) fb D B C O R := by
  have h1 : m / 2 ^ n * 2 ^ n ≤ m := Nat.div_mul_le_self m (2 ^ n)
  unfold wX_readCode_45
  refine br_t rfl (ps_readBits (v := m % 2 ^ n) rfl (by omega) hL g ?_)
  have e : nI (m / 2 ^ n) <<< (nI n &&& 31) + nI (m % 2 ^ n % 2 ^ n) = nI m := by
    rw [pk_shlN _ n (s_l n (by omega)) (by omega), nI_add, Nat.mod_mod, Nat.div_add_mod']
  show post (nI (m / 2 ^ n) <<< (nI n &&& 31) + nI (m % 2 ^ n % 2 ^ n)) _
  rw [e]
  exact h
theorem ps_readCode {n m L : Nat} (hn : n ≤ 6) (hm : m < 256) (hL : L + 24 ≤ 1536) (g : ps_Rd B L (ps_code n m)) (h : post (nI m) (fs, fl, nI (L + (ps_code n m).length), fr, nI n, fb, D, B, C, O, R)) : wpX_readCode post (fs, fl, nI L, fr, nI n, fb, D, B, C, O, R) := by
  have n1 : ¬ (1 : Int32) = 0 := by decide
  unfold wpX_readCode
  dsimp only
  unfold ps_code at g h
  by_cases z : m / 2 ^ n < 8
  · rw [if_pos z] at g h
    rw [List.length_append, List.length_replicate, List.length_cons, ps_bm_l] at h
    have g1 := (ps_Rd_app _ _ _ g).2
    rw [List.length_replicate] at g1
    have g2 : ps_bA B (L + m / 2 ^ n) = false ∧ ps_Rd B (L + m / 2 ^ n + 1) (ps_bm (m % 2 ^ n) n) := g1
    have K : wX_readCode_45 post (nI (m / 2 ^ n)) 0 fs fl (nI (L + m / 2 ^ n + 1)) fr (nI n) fb D B C O R := by
      refine ps_rC45 hn hm (by omega) g2.2 ?_
      rw [show L + m / 2 ^ n + 1 + n = L + (m / 2 ^ n + (n + 1)) from by omega]
      exact h
    refine ⟨2 + m / 2 ^ n, ps_rC6 _ (m / 2 ^ n) 0 2 L (by omega) (by omega) g ?_⟩
    rw [Nat.zero_add]
    unfold wX_readCode_6
    refine pk_le 8 (m / 2 ^ n) (fun y => absurd y (by omega)) fun _ => br_f n1 (ps_readBit (by omega) ?_)
    rw [g2.1]
    refine br_f (by decide) (nm_r (e' := nI (m / 2 ^ n)) (Int32.add_zero _) (nm_r (nI_1 _) ?_))
    unfold wX_readCode_6
    exact br_c (fun _ => K) fun _ => br_t rfl K
  · rw [if_neg z] at g h
    rw [List.length_append, List.length_replicate, ps_bm_l] at h
    have g1 := (ps_Rd_app _ _ _ g).2
    rw [List.length_replicate] at g1
    refine ⟨1 + 8, ps_rC6 _ 8 0 1 L (by omega) (by omega) g ?_⟩
    unfold wX_readCode_6
    refine br_t (show (8 : Int32) ≤ nI (0 + 8) from by decide) ?_
    unfold wX_readCode_45
    refine br_f n1 (ps_readBits (v := m) (c := 8) rfl (by omega) (by omega) g1 ?_)
    rw [Nat.mod_eq_of_lt (show m < 2 ^ 8 by omega), Nat.add_assoc]
    exact h
end
end
section
/-! walks: the constructor, ramp, the sums -/
theorem ps_i55 {post : SX → Prop} {J : Int32 → Int32 → (Nat → Int32) → (Nat → Int32) → (Nat → Int32) → (Nat → Int32) → (Nat → Int32) → Prop} {fs fl fa fr fw fb : Int32} {D B C : Nat → Int32} {s b : Nat} (hs : s < 2 ^ 31) (hr : ∀ p, p < 81 → ps_st p = s → ps_rk p = ps_cn s b p) (hJ : ∀ O R, ps_Iv (ps_cn s b 81) O R → J (nI (ps_cn s b 81)) (nI (s / 2)) D B C O R) : ∀ (d p n : Nat) (O R : Nat → Int32), p + d = 81 → d < n → ps_Iv (ps_cn s b p) O R → wX_init_55 post J (nI s) fs fl fa fr fw fb n (nI (ps_cn s b p)) (nI p) D B C O R := by
  have hd : nI s / 2 = nI (s / 2) := pk_div (d := 2) hs (by decide) (by decide)
  intro d
  induction d with
  | zero =>
    intro p n O R hp hn h
    obtain ⟨n, rfl⟩ : ∃ m, n = m + 1 := ⟨n - 1, by omega⟩
    have hp : p = 81 := hp
    subst hp
    unfold wX_init_55
    exact br_t (show (81 : Int32) ≤ nI 81 from by decide) ⟨by decide, nm_r hd (hJ O R h)⟩
  | succ d ih =>
    intro p n O R hp hn h
    obtain ⟨n, rfl⟩ : ∃ m, n = m + 1 := ⟨n - 1, by omega⟩
    have hp81 : p < 81 := by omega
    have rr := ps_st_r p
    have ek := ps_rk_lt p hp81
    have hi : vp_in (nI p) 81 := vp_in_nI hp81 (by decide)
    have hc : (nI p).toNatClampNeg = p := nI_clamp (by omega)
    unfold wX_init_55
    refine pk_le 81 p (fun z => absurd z (by omega)) fun _ => ⟨by decide, nm_r (pk_rem (d := 9) (by omega) (by decide) (by decide)) ⟨by decide, nm_r (pk_div (d := 9) (by omega) (by decide) (by decide)) (ps_stepOf (by omega) (by omega) ?_)⟩⟩
    refine pk_eq (ps_st p) s (fun e => ?_) (fun e => ?_)
    · have e1 : ps_cn s b (p + 1) = ps_cn s b p + 1 := by
        show ps_cn s b p + (if ps_st p = s then 1 else 0) = _
        rw [if_pos e]
      have e2 := hr p hp81 e
      have hic : vp_in (nI (ps_cn s b p)) 81 := vp_in_nI (by omega) (by decide)
      have IH := ih (p + 1) n (upd O (ps_cn s b p) (nI p)) (upd R p (nI (ps_cn s b p))) (by omega) (by omega) (by rw [e1]; exact ps_IvS hp81 e2 h)
      rw [e1] at IH
      refine ⟨hic, nm_r (e' := upd O (ps_cn s b p) (nI p)) (by rw [nI_clamp (by omega)]) ⟨hi, nm_r (e' := upd R p (nI (ps_cn s b p))) (by rw [hc]) (nm_r (nI_1 _) (nm_r (nI_1 _) IH))⟩⟩
    · have e1 : ps_cn s b (p + 1) = ps_cn s b p := by
        show ps_cn s b p + (if ps_st p = s then 1 else 0) = _
        rw [if_neg e]
        rfl
      have IH := ih (p + 1) n O R (by omega) (by omega) (by rw [e1]; exact h)
      rw [e1] at IH
      exact nm_r (nI_1 _) IH
theorem ps_init {post : SX → Prop} (h : ∀ O R, ps_Iv 81 O R → post (0, 0, 0, 0, 0, 0, (fun _ => 0), (fun _ => 0), (fun _ => 0), O, R)) : wpX_init post := by
  refine ⟨5, ?_⟩
  show wX_init_49 post 0 0 0 0 0 0 5 (nI 0) (nI 8) (fun _ => 0) (fun _ => 0) (fun _ => 0) (fun _ => 0) (fun _ => 0)
  unfold wX_init_49
  refine br_f (nI_nle (by decide) (by decide)) ⟨82, ps_i55 (s := 8) (b := 0) (by decide) ps_cn8 ?_ 81 0 82 _ _ rfl (by decide) (ps_Iv0 _ _)⟩
  rw [ps_cn8e]
  intro O R h1
  show wX_init_49 post 0 0 0 0 0 0 4 (nI 4) (nI 4) (fun _ => 0) (fun _ => 0) (fun _ => 0) O R
  unfold wX_init_49
  refine br_f (nI_nle (by decide) (by decide)) ⟨82, ps_i55 (s := 4) (b := 4) (by decide) ps_cn4 ?_ 81 0 82 _ _ rfl (by decide) h1⟩
  rw [ps_cn4e]
  intro O R h1
  show wX_init_49 post 0 0 0 0 0 0 3 (nI 9) (nI 2) (fun _ => 0) (fun _ => 0) (fun _ => 0) O R
  unfold wX_init_49
  refine br_f (nI_nle (by decide) (by decide)) ⟨82, ps_i55 (s := 2) (b := 9) (by decide) ps_cn2 ?_ 81 0 82 _ _ rfl (by decide) h1⟩
  rw [ps_cn2e]
  intro O R h1
  show wX_init_49 post 0 0 0 0 0 0 2 (nI 25) (nI 1) (fun _ => 0) (fun _ => 0) (fun _ => 0) O R
  unfold wX_init_49
  refine br_f (nI_nle (by decide) (by decide)) ⟨82, ps_i55 (s := 1) (b := 25) (by decide) ps_cn1 ?_ 81 0 82 _ _ rfl (by decide) h1⟩
  rw [ps_cn1e]
  intro O R h1
  show wX_init_49 post 0 0 0 0 0 0 1 (nI 81) (nI 0) (fun _ => 0) (fun _ => 0) (fun _ => 0) O R
  unfold wX_init_49
  exact br_t (show nI 0 ≤ 0 from by decide) (h O R h1)
/-! filling by a function of the place -/
def ps_fl (f : Nat → Int32) (D : Nat → Int32) : Nat → (Nat → Int32)
  | 0 => D
  | k + 1 => upd (ps_fl f D k) k (f k)
theorem ps_fl_lt (f D : Nat → Int32) : ∀ k j, j < k → ps_fl f D k j = f j := by
  intro k
  induction k with
  | zero => intro j h; exact absurd h (Nat.not_lt_zero _)
  | succ k ih =>
    intro j h
    show upd (ps_fl f D k) k (f k) j = f j
    by_cases e : j = k
    · subst e; exact pk_us
    · rw [pk_un e]
      exact ih j (by omega)
theorem ps_fl_By {f D : Nat → Int32} (hD : ∀ p, ps_By (D p)) (hf : ∀ p, ps_By (f p)) : ∀ k p, ps_By (ps_fl f D k p) := by
  intro k
  induction k with
  | zero => exact hD
  | succ k ih =>
    intro p
    show ps_By (upd (ps_fl f D k) k (f k) p)
    by_cases e : p = k
    · subst e
      rw [pk_us]
      exact hf p
    · rw [pk_un e]
      exact ih p
def ps_rp (a dx dy : Int32) (i : Nat) : Int32 := ((a + (dx * nI (i % 9))) + (dy * nI (i / 9))) &&& 255
theorem ps_r13 {post : SX → Prop} {J : Int32 → (Nat → Int32) → (Nat → Int32) → (Nat → Int32) → (Nat → Int32) → (Nat → Int32) → Prop} {a dx dy fs fl fa fr fw fb : Int32} {D B C O R : Nat → Int32} {y : Nat} (hy : y < 9) (hJ : J (nI (y + 1)) (ps_fl (ps_rp a dx dy) D (9 * (y + 1))) B C O R) : ∀ d x n : Nat, x + d = 9 → d < n → wX_ramp_13 post J a dx dy (nI y) fs fl fa fr fw fb n (nI x) (ps_fl (ps_rp a dx dy) D (9 * y + x)) B C O R := by
  intro d
  induction d with
  | zero =>
    intro x n hx hn
    obtain ⟨n, rfl⟩ : ∃ m, n = m + 1 := ⟨n - 1, by omega⟩
    have hx : x = 9 := hx
    subst hx
    unfold wX_ramp_13
    exact br_t (show (9 : Int32) ≤ nI 9 from by decide) (nm_r (nI_1 y) hJ)
  | succ d ih =>
    intro x n hx hn
    obtain ⟨n, rfl⟩ : ∃ m, n = m + 1 := ⟨n - 1, by omega⟩
    have IH := ih (x + 1) n (by omega) (by omega)
    have e : ps_rp a dx dy (9 * y + x) = ((a + (dx * nI x)) + (dy * nI y)) &&& 255 := by
      unfold ps_rp
      rw [show (9 * y + x) % 9 = x from by omega, show (9 * y + x) / 9 = y from by omega]
    unfold wX_ramp_13
    refine pk_le 9 x (fun z => absurd z (by omega)) fun _ => ?_
    rw [ps_ix, nI_clamp (by omega), ← e]
    exact ⟨vp_in_nI (by omega) (by decide), nm_e (nm_r (nI_1 x) IH)⟩
theorem ps_r3 {post : SX → Prop} {a dx dy fs fl fa fr fw fb : Int32} {D B C O R : Nat → Int32} (h : post (fs, fl, fa, fr, fw, fb, ps_fl (ps_rp a dx dy) D 81, B, C, O, R)) : ∀ d y n : Nat, y + d = 9 → d < n → wX_ramp_3 post a dx dy fs fl fa fr fw fb n (nI y) (ps_fl (ps_rp a dx dy) D (9 * y)) B C O R := by
  intro d
  induction d with
  | zero =>
    intro y n hy hn
    obtain ⟨n, rfl⟩ : ∃ m, n = m + 1 := ⟨n - 1, by omega⟩
    have hy : y = 9 := hy
    subst hy
    unfold wX_ramp_3
    exact br_t (show (9 : Int32) ≤ nI 9 from by decide) h
  | succ d ih =>
    intro y n hy hn
    obtain ⟨n, rfl⟩ : ∃ m, n = m + 1 := ⟨n - 1, by omega⟩
    have IH := ih (y + 1) n (by omega) (by omega)
    unfold wX_ramp_3
    refine pk_le 9 y (fun z => absurd z (by omega)) fun _ => ⟨10, ?_⟩
    exact ps_r13 (J := wX_ramp_3 post a dx dy fs fl fa fr fw fb n) (by omega) IH 9 0 10 rfl (by decide)
theorem ps_yr3 {post : SY → Prop} {a dx dy fs fr : Int32} {D S : Nat → Int32} (h : post (fs, fr, ps_fl (ps_rp a dx dy) D 81, S)) : ∀ d i n : Nat, i + d = 81 → d < n → wY_ramp_3 post a dx dy fs fr n (nI i) (ps_fl (ps_rp a dx dy) D i) S := by
  intro d
  induction d with
  | zero =>
    intro i n hi hn
    obtain ⟨n, rfl⟩ : ∃ m, n = m + 1 := ⟨n - 1, by omega⟩
    have hi : i = 81 := hi
    subst hi
    unfold wY_ramp_3
    exact br_t (show (81 : Int32) ≤ nI 81 from by decide) h
  | succ d ih =>
    intro i n hi hn
    obtain ⟨n, rfl⟩ : ∃ m, n = m + 1 := ⟨n - 1, by omega⟩
    have IH := ih (i + 1) n (by omega) (by omega)
    have e : ((a + (dx * (nI i - nI i / 9 * 9))) + (dy * (nI i / 9))) &&& 255 = ps_rp a dx dy i := by
      unfold ps_rp
      rw [show nI i - nI i / 9 * 9 = nI (i % 9) from pk_rem (d := 9) (by omega) (by decide) (by decide), show nI i / 9 = nI (i / 9) from pk_div (d := 9) (by omega) (by decide) (by decide)]
    unfold wY_ramp_3
    refine pk_le 81 i (fun z => absurd z (by omega)) fun _ => ⟨by decide, by decide, ?_⟩
    rw [nI_clamp (by omega), e]
    exact ⟨vp_in_nI (by omega) (by decide), nm_e (nm_r (nI_1 i) IH)⟩
theorem ps_ys2 {post : SY → Prop} {fs fr : Int32} {D S : Nat → Int32} (h : post (1, 0, D, ps_fl D S 81)) : ∀ d i n : Nat, i + d = 81 → d < n → wY_send_2 post fs fr n (nI i) D (ps_fl D S i) := by
  intro d
  induction d with
  | zero =>
    intro i n hi hn
    obtain ⟨n, rfl⟩ : ∃ m, n = m + 1 := ⟨n - 1, by omega⟩
    have hi : i = 81 := hi
    subst hi
    unfold wY_send_2
    exact br_t (show (81 : Int32) ≤ nI 81 from by decide) h
  | succ d ih =>
    intro i n hi hn
    obtain ⟨n, rfl⟩ : ∃ m, n = m + 1 := ⟨n - 1, by omega⟩
    have IH := ih (i + 1) n (by omega) (by omega)
    have hv : vp_in (nI i) 81 := vp_in_nI (by omega) (by decide)
    unfold wY_send_2
    refine pk_le 81 i (fun z => absurd z (by omega)) fun _ => ⟨hv, ?_⟩
    rw [nI_clamp (by omega)]
    exact ⟨hv, nm_e (nm_r (nI_1 i) IH)⟩
/-! sums over the places, in either order -/
def ps_sm (g : Nat → Int32) : Nat → Int32
  | 0 => 0
  | k + 1 => ps_sm g k + g k
theorem ps_sm_f (g : Nat → Int32) : ∀ k, ps_sm g k = (List.range k).foldl (fun a p => a + g p) 0 := by
  intro k
  induction k with
  | zero => rfl
  | succ k ih =>
    rw [List.range_succ, List.foldl_append, ← ih]
    rfl
theorem ps_sm_c {g g' : Nat → Int32} : ∀ k, (∀ j, j < k → g j = g' j) → ps_sm g k = ps_sm g' k := by
  intro k
  induction k with
  | zero => intro _; rfl
  | succ k ih =>
    intro h
    show ps_sm g k + g k = ps_sm g' k + g' k
    rw [ih fun j hj => h j (by omega), h k (by omega)]
theorem ps_perm : ((List.range 81).map ps_od).Perm (List.range 81) := by decide +kernel
theorem ps_sm_p (g : Nat → Int32) : ps_sm (fun k => g (ps_od k)) 81 = ps_sm g 81 := by
  rw [ps_sm_f, ps_sm_f]
  have h := ps_perm.foldl_eq' (f := fun (a : Int32) p => a + g p) (fun x _ y _ z => by
    show z + g x + g y = z + g y + g x
    rw [Int32.add_assoc, Int32.add_assoc, Int32.add_comm (g x)]) 0
  rw [List.foldl_map] at h
  exact h
end
section
/-! walks: count, sum, send, receive -/
def ps_ct (lo hi x : Int32) : Int32 := if x < lo then 0 else if hi < x then 0 else 1
theorem ps_smS {g : Nat → Int32} {k : Nat} {x : Int32} (h : g k = x) : ps_sm g (k + 1) = ps_sm g k + x := by rw [← h]; rfl
theorem ps_smZ {g : Nat → Int32} {k : Nat} (h : g k = 0) : ps_sm g (k + 1) = ps_sm g k := by rw [ps_smS h, Int32.add_zero]
theorem ps_ct1 {lo hi x : Int32} (h : x < lo) : ps_ct lo hi x = 0 := if_pos h
theorem ps_ct2 {lo hi x : Int32} (h : ¬ x < lo) (h2 : hi < x) : ps_ct lo hi x = 0 := by unfold ps_ct; rw [if_neg h, if_pos h2]
theorem ps_ct3 {lo hi x : Int32} (h : ¬ x < lo) (h2 : ¬ hi < x) : ps_ct lo hi x = 1 := by unfold ps_ct; rw [if_neg h, if_neg h2]
section
variable {post : Int32 → Prop} {lo hi fs fl fa fw fb : Int32} {D B C O R S g : Nat → Int32} {r : Nat}
theorem ps_xc5 (hr : r ≤ 81) (h0 : fs = 0 → r = 0) (hO : ∀ j, j < 81 → O j = nI (ps_od j)) (g0 : ∀ k, k < 81 → r ≤ k → g k = 0) (g1 : ∀ k, k < 81 → k < r → g k = ps_ct lo hi (C (ps_od k))) (h : post (ps_sm g 81)) : ∀ d k n : Nat, k + d = 81 → d < n → wX_count_5 post lo hi fs fl fa (nI r) fw fb D B C O R n (ps_sm g k) (nI k) := by
  intro d
  induction d with
  | zero =>
    intro k n hk hn
    obtain ⟨n, rfl⟩ : ∃ m, n = m + 1 := ⟨n - 1, by omega⟩
    have hk : k = 81 := hk
    subst hk
    unfold wX_count_5
    exact br_t (show (81 : Int32) ≤ nI 81 from by decide) h
  | succ d ih =>
    intro k n hk hn
    obtain ⟨n, rfl⟩ : ∃ m, n = m + 1 := ⟨n - 1, by omega⟩
    have hk81 : k < 81 := by omega
    have ho := ps_od_lt k hk81
    have IH := ih (k + 1) n (by omega) (by omega)
    have Z : g k = 0 → wX_count_5 post lo hi fs fl fa (nI r) fw fb D B C O R n (ps_sm g k) (nI (k + 1)) := fun z => by
      rw [ps_smZ z] at IH
      exact IH
    unfold wX_count_5
    refine pk_le 81 k (fun z => absurd z (by omega)) fun _ => ⟨vp_in_nI hk81 (by decide), ?_⟩
    rw [nI_clamp (show k < 2 ^ 31 by omega), hO k hk81]
    refine ⟨vp_in_nI ho (by decide), nm_r (e' := C (ps_od k)) (by rw [nI_clamp (by omega)]) ?_⟩
    refine br_c (fun z => ?_) fun z => pk_le r k (fun z2 => ?_) fun z2 => br_c (fun z3 => ?_) fun z3 => br_c (fun z4 => ?_) fun z4 => ?_
    · exact nm_r (nI_1 k) (Z (g0 k hk81 (by have := h0 z; omega)))
    · exact nm_r (nI_1 k) (Z (g0 k hk81 z2))
    · exact nm_r (nI_1 k) (Z ((g1 k hk81 z2).trans (ps_ct1 z3)))
    · exact nm_r (nI_1 k) (Z ((g1 k hk81 z2).trans (ps_ct2 z3 z4)))
    · rw [ps_smS ((g1 k hk81 z2).trans (ps_ct3 z3 z4))] at IH
      exact nm_e (nm_r (nI_1 k) IH)
theorem ps_yc5 (hr : r ≤ 81) (g0 : ∀ p, p < 81 → r ≤ ps_rk p → g p = 0) (g1 : ∀ p, p < 81 → ps_rk p < r → g p = ps_ct lo hi (S p)) (h : post (ps_sm g 81)) : ∀ d k n : Nat, k + d = 81 → d < n → wY_count_5 post lo hi fs (nI r) D S n (ps_sm g k) (nI k) := by
  intro d
  induction d with
  | zero =>
    intro k n hk hn
    obtain ⟨n, rfl⟩ : ∃ m, n = m + 1 := ⟨n - 1, by omega⟩
    have hk : k = 81 := hk
    subst hk
    unfold wY_count_5
    exact br_t (show (81 : Int32) ≤ nI 81 from by decide) h
  | succ d ih =>
    intro k n hk hn
    obtain ⟨n, rfl⟩ : ∃ m, n = m + 1 := ⟨n - 1, by omega⟩
    have hk81 : k < 81 := by omega
    have ho := ps_rk_lt k hk81
    have hv : vp_in (nI k) 81 := vp_in_nI hk81 (by decide)
    have IH := ih (k + 1) n (by omega) (by omega)
    have Z : g k = 0 → wY_count_5 post lo hi fs (nI r) D S n (ps_sm g k) (nI (k + 1)) := fun z => by
      rw [ps_smZ z] at IH
      exact IH
    unfold wY_count_5
    rw [nI_clamp (show k < 2 ^ 31 by omega)]
    refine pk_le 81 k (fun z => absurd z (by omega)) fun _ => ps_place hk81 ?_
    refine pk_le r (ps_rk k) (fun z2 => ?_) fun z2 => ⟨hv, br_c (fun z3 => ?_) fun z3 => ⟨hv, br_c (fun z4 => ?_) fun z4 => ?_⟩⟩
    · exact nm_r (nI_1 k) (Z (g0 k hk81 z2))
    · exact nm_r (nI_1 k) (Z ((g1 k hk81 z2).trans (ps_ct1 z3)))
    · exact nm_r (nI_1 k) (Z ((g1 k hk81 z2).trans (ps_ct2 z3 z4)))
    · rw [ps_smS ((g1 k hk81 z2).trans (ps_ct3 z3 z4))] at IH
      exact nm_e (nm_r (nI_1 k) IH)
theorem ps_xs4 (hr : r ≤ 81) (h0 : fs = 0 → r = 0) (hO : ∀ j, j < 81 → O j = nI (ps_od j)) (g0 : ∀ k, k < 81 → r ≤ k → g k = 0) (g1 : ∀ k, k < 81 → k < r → g k = C (ps_od k)) (h : post (ps_sm g 81)) : ∀ d k n : Nat, k + d = 81 → d < n → wX_sum_4 post fs fl fa (nI r) fw fb D B C O R n (ps_sm g k) (nI k) := by
  intro d
  induction d with
  | zero =>
    intro k n hk hn
    obtain ⟨n, rfl⟩ : ∃ m, n = m + 1 := ⟨n - 1, by omega⟩
    have hk : k = 81 := hk
    subst hk
    unfold wX_sum_4
    exact br_t (show (81 : Int32) ≤ nI 81 from by decide) h
  | succ d ih =>
    intro k n hk hn
    obtain ⟨n, rfl⟩ : ∃ m, n = m + 1 := ⟨n - 1, by omega⟩
    have hk81 : k < 81 := by omega
    have ho := ps_od_lt k hk81
    have IH := ih (k + 1) n (by omega) (by omega)
    unfold wX_sum_4
    rw [nI_clamp (show k < 2 ^ 31 by omega), hO k hk81, nI_clamp (show ps_od k < 2 ^ 31 by omega)]
    refine pk_le 81 k (fun z => absurd z (by omega)) fun _ => ?_
    refine br_c (fun z => ?_) fun z => pk_le r k (fun z2 => ?_) fun z2 => ⟨vp_in_nI hk81 (by decide), vp_in_nI ho (by decide), ?_⟩
    · rw [ps_smS (g0 k hk81 (by have := h0 z; omega))] at IH
      exact nm_e (nm_r (nI_1 k) IH)
    · rw [ps_smS (g0 k hk81 z2)] at IH
      exact nm_e (nm_r (nI_1 k) IH)
    · rw [ps_smS (g1 k hk81 z2)] at IH
      exact nm_e (nm_r (nI_1 k) IH)
theorem ps_ysm (hr : r ≤ 81) (g0 : ∀ p, p < 81 → r ≤ ps_rk p → g p = 0) (g1 : ∀ p, p < 81 → ps_rk p < r → g p = S p) (h : post (ps_sm g 81)) : ∀ d k n : Nat, k + d = 81 → d < n → wY_sum_4 post fs (nI r) D S n (ps_sm g k) (nI k) := by
  intro d
  induction d with
  | zero =>
    intro k n hk hn
    obtain ⟨n, rfl⟩ : ∃ m, n = m + 1 := ⟨n - 1, by omega⟩
    have hk : k = 81 := hk
    subst hk
    unfold wY_sum_4
    exact br_t (show (81 : Int32) ≤ nI 81 from by decide) h
  | succ d ih =>
    intro k n hk hn
    obtain ⟨n, rfl⟩ : ∃ m, n = m + 1 := ⟨n - 1, by omega⟩
    have hk81 : k < 81 := by omega
    have ho := ps_rk_lt k hk81
    have IH := ih (k + 1) n (by omega) (by omega)
    unfold wY_sum_4
    rw [nI_clamp (show k < 2 ^ 31 by omega)]
    refine pk_le 81 k (fun z => absurd z (by omega)) fun _ => ps_place hk81 ?_
    refine pk_le r (ps_rk k) (fun z2 => ?_) fun z2 => ⟨vp_in_nI hk81 (by decide), ?_⟩
    · rw [ps_smZ (g0 k hk81 z2)] at IH
      exact nm_r (nI_1 k) IH
    · rw [ps_smS (g1 k hk81 z2)] at IH
      exact nm_e (nm_r (nI_1 k) IH)
end
/-! send -/
theorem ps_FB (d : Nat → Int32) (k : Nat) : ps_By (ps_F d k) := ⟨_, (ps_F_n d k).1, (ps_F_n d k).2⟩
section
variable {post : SX → Prop} {fs fl fa fr fw fb : Int32} {D B C O R : Nat → Int32}
theorem ps_wCw {L : Nat} {w x : Int32} (hw : ps_Wd w) (hx : ps_By x) (hL : L + 24 ≤ 1536) (h : post (fs, nI (L + (ps_code w.toNatClampNeg x.toNatClampNeg).length), fa, fr, w, fb, D, ps_wr (ps_code w.toNatClampNeg x.toNatClampNeg) L B, C, O, R)) : wpX_writeCode post (fs, nI L, fa, fr, w, fb, D, B, C, O, R) x := by
  obtain ⟨n, hn, rfl⟩ := hw
  obtain ⟨m, hm, rfl⟩ := hx
  rw [nI_clamp (show n < 2 ^ 31 by omega), nI_clamp (show m < 2 ^ 31 by omega)] at h
  exact ps_writeCode hn hm hL h
theorem ps_s37 (hO : ∀ j, j < 81 → O j = nI (ps_od j)) (hR : ∀ q, q < 81 → R q = nI (ps_rk q)) (h : ∀ B', ps_Sv D 81 B' → post (fs, nI (ps_po D 81), 0, 0, 3, 0, D, B', C, O, R)) : ∀ (d k n : Nat) (B : Nat → Int32), k + d = 81 → d < n → ps_Sv D k B → wX_send_37 post n (nI k) fs (nI (ps_po D k)) fa fr (ps_wb D k).1 (ps_wb D k).2 D B C O R := by
  intro d
  induction d with
  | zero =>
    intro k n B hk hn hS
    obtain ⟨n, rfl⟩ : ∃ m, n = m + 1 := ⟨n - 1, by omega⟩
    have hk : k = 81 := hk
    subst hk
    unfold wX_send_37
    exact br_t (show (81 : Int32) ≤ nI 81 from by decide) (h B hS)
  | succ d ih =>
    intro k n B hk hn hS
    obtain ⟨n, rfl⟩ : ∃ m, n = m + 1 := ⟨n - 1, by omega⟩
    have hk81 : k < 81 := by omega
    have ho := ps_od_lt k hk81
    have hp := ps_po_le D k
    have hv : vp_in (nI k) 81 := vp_in_nI hk81 (by decide)
    have hpic : ps_pic 1 D C = D := if_neg (by decide)
    have IH := ih (k + 1) n _ (by omega) (by omega) (ps_SvS hk81 hS)
    unfold wX_send_37
    refine pk_le 81 k (fun z => absurd z (by omega)) fun _ => ⟨hv, ?_⟩
    rw [nI_clamp (show k < 2 ^ 31 by omega), hO k hk81, nI_clamp (show ps_od k < 2 ^ 31 by omega)]
    refine ps_tell ho hO hR ?_
    rw [hpic]
    refine ⟨hv, vp_in_nI ho (by decide), nm_r (e' := ps_df D k) rfl (ps_fold ?_)⟩
    refine ps_wCw (x := ps_F D k) (ps_wb_W D k) (ps_FB D k) (by omega) ?_
    exact ps_adapt (nm_r (nI_1 k) IH)
theorem ps_s12 (h : ∃ n37 : Nat, wX_send_37 post n37 (nI 0) fs fl fa fr 3 0 D (ps_fl (fun _ => 0) B 48) C O R) : ∀ d k n : Nat, k + d = 48 → d < n → wX_send_12 post fs fl fa fr fw fb n (nI k) D (ps_fl (fun _ => 0) B k) C O R := by
  intro d
  induction d with
  | zero =>
    intro k n hk hn
    obtain ⟨n, rfl⟩ : ∃ m, n = m + 1 := ⟨n - 1, by omega⟩
    have hk : k = 48 := hk
    subst hk
    unfold wX_send_12
    exact br_t (show (48 : Int32) ≤ nI 48 from by decide) h
  | succ d ih =>
    intro k n hk hn
    obtain ⟨n, rfl⟩ : ∃ m, n = m + 1 := ⟨n - 1, by omega⟩
    have IH := ih (k + 1) n (by omega) (by omega)
    unfold wX_send_12
    refine pk_le 48 k (fun z => absurd z (by omega)) fun _ => ?_
    rw [nI_clamp (by omega)]
    exact ⟨vp_in_nI (by omega) (by decide), nm_e (nm_r (nI_1 k) IH)⟩
theorem ps_send (hO : ∀ j, j < 81 → O j = nI (ps_od j)) (hR : ∀ q, q < 81 → R q = nI (ps_rk q)) (h : ∀ B', (∀ k, k < 81 → ps_Rd B' (ps_po D k) (ps_cd D k)) → post (1, nI (ps_po D 81), 0, 0, 3, 0, D, B', C, O, R)) : wpX_send post (fs, fl, fa, fr, fw, fb, D, B, C, O, R) := by
  unfold wpX_send
  dsimp only
  refine ⟨49, ps_s12 ⟨82, ?_⟩ 48 0 49 rfl (by decide)⟩
  exact ps_s37 hO hR (fun B' g => h B' g.1) 81 0 82 _ rfl (by decide) (ps_Sv0 fun j hj => ps_fl_lt _ _ 48 j hj)
end
/-! receive -/
def ps_Cv (d : Nat → Int32) (r : Nat) (C : Nat → Int32) : Prop := ∀ p, p < 81 → ps_rk p < r → C p = d p
theorem ps_CvS {d C : Nat → Int32} {r : Nat} (hr : r < 81) (h : ps_Cv d r C) : ps_Cv d (r + 1) (upd C (ps_od r) (d (ps_od r))) := by
  intro p hp hk
  by_cases e : p = ps_od r
  · subst e
    exact pk_us
  · rw [pk_un e]
    refine h p hp ?_
    have : ps_rk p ≠ r := fun z => e (by rw [← z, ps_od_rk p hp])
    omega
section
variable {post : Int32 → SX → Prop} {fs fl fa fr fw fb : Int32} {D B O R d : Nat → Int32}
theorem ps_rCw {C : Nat → Int32} {L : Nat} {w x : Int32} (hw : ps_Wd w) (hx : ps_By x) (hL : L + 24 ≤ 1536) (g : ps_Rd B L (ps_code w.toNatClampNeg x.toNatClampNeg)) (h : post x (fs, fl, nI (L + (ps_code w.toNatClampNeg x.toNatClampNeg).length), fr, w, fb, D, B, C, O, R)) : wpX_readCode post (fs, fl, nI L, fr, w, fb, D, B, C, O, R) := by
  obtain ⟨n, hn, rfl⟩ := hw
  obtain ⟨m, hm, rfl⟩ := hx
  rw [nI_clamp (show n < 2 ^ 31 by omega), nI_clamp (show m < 2 ^ 31 by omega)] at g h
  exact ps_readCode hn hm hL g h
theorem ps_r11 {e r0 T : Nat} (he : e < 2 ^ 31) (hT : (r0 + e ≤ 81 ∧ T = r0 + e) ∨ (81 < r0 + e ∧ T = 81)) (hd : ∀ p, ps_By (d p)) (hO : ∀ j, j < 81 → O j = nI (ps_od j)) (hR : ∀ q, q < 81 → R q = nI (ps_rk q)) (hB : ∀ k, k < 81 → ps_Rd B (ps_po d k) (ps_cd d k)) (h : ∀ C', ps_Cv d T C' → post (nI T) (fs, fl, nI (ps_po d T), nI T, (ps_wb d T).1, (ps_wb d T).2, D, B, C', O, R)) : ∀ (q t n : Nat) (C : Nat → Int32), r0 + t + q = T → q < n → ps_Cv d (r0 + t) C → wX_receive_11 post (nI e) n (nI t) fs fl (nI (ps_po d (r0 + t))) (nI (r0 + t)) (ps_wb d (r0 + t)).1 (ps_wb d (r0 + t)).2 D B C O R := by
  intro q
  induction q with
  | zero =>
    intro t n C ht hn hC
    obtain ⟨n, rfl⟩ : ∃ m, n = m + 1 := ⟨n - 1, by omega⟩
    have ht : r0 + t = T := ht
    rw [ht] at hC ⊢
    have K := h C hC
    unfold wX_receive_11
    exact pk_le e t (fun _ => K) fun z => pk_le 81 t (fun _ => K) fun z2 => pk_le 81 T (fun _ => K) fun z3 => absurd z3 (by omega)
  | succ q ih =>
    intro t n C ht hn hC
    obtain ⟨n, rfl⟩ : ∃ m, n = m + 1 := ⟨n - 1, by omega⟩
    have IH := fun C' => ih (t + 1) n C' (by omega) (by omega)
    have h81 : r0 + t < 81 := by omega
    have hte : t < e := by omega
    rw [show r0 + (t + 1) = r0 + t + 1 from rfl] at IH
    generalize r0 + t = r at hC IH h81 ⊢
    have ho := ps_od_lt r h81
    have hp := ps_po_le d r
    have hpic : ps_pic 0 D C = C := if_pos rfl
    have hg : ps_gs C (ps_od r) = ps_gs d (ps_od r) := ps_gs_c ho fun q hq hk => hC q hq (by rw [ps_rk_od r h81] at hk; exact hk)
    unfold wX_receive_11
    refine pk_le e t (fun z => absurd z (by omega)) fun _ => pk_le 81 t (fun z => absurd z (by omega)) fun _ => pk_le 81 r (fun z => absurd z (by omega)) fun _ => ⟨vp_in_nI h81 (by decide), nm_r (e' := nI (ps_od r)) (by rw [nI_clamp (by omega), hO r h81]) ?_⟩
    refine ps_rCw (x := ps_F d r) (ps_wb_W d r) (ps_FB d r) (by omega) (hB r h81) ?_
    refine ps_tell ho hO hR ?_
    rw [hpic, hg]
    refine ps_unf ?_
    rw [ps_F_uf]
    refine ⟨vp_in_nI ho (by decide), nm_r (e' := upd C (ps_od r) (d (ps_od r))) ?_ (ps_adapt (nm_r (nI_1 r) (nm_r (nI_1 t) (IH _ (ps_CvS h81 hC)))))⟩
    rw [nI_clamp (by omega), ps_df, ps_back (hd _)]
end
end
section
/-! the relation, and what is owed -/
/-- the picture d was sent, the row holds it, r pixels of it are received -/
def ps_So (d : Nat → Int32) (r : Nat) (fa w b : Int32) (B C S : Nat → Int32) : Prop := (∀ p, ps_By (d p)) ∧ (∀ p, p < 81 → S p = d p) ∧ (∀ k, k < 81 → ps_Rd B (ps_po d k) (ps_cd d k)) ∧ w = (ps_wb d r).1 ∧ b = (ps_wb d r).2 ∧ fa = nI (ps_po d r) ∧ ps_Cv d r C
def ps_Re (fs fa w b : Int32) (r : Nat) (D B C O R S : Nat → Int32) : Prop := (∀ j, j < 81 → O j = nI (ps_od j)) ∧ (∀ q, q < 81 → R q = nI (ps_rk q)) ∧ (∀ p, ps_By (D p)) ∧ r ≤ 81 ∧ ((fs = 0 ∧ r = 0) ∨ (fs = 1 ∧ ∃ d, ps_So d r fa w b B C S))
/-- the relation at the head of a turn: one flag, one count, one drawn picture; the tables; and what was sent -/
def i_Rel (_ : Nat) (u : SX) (v : SY) : Prop := ∃ (fs fl fa w b : Int32) (r : Nat) (D B C O R S : Nat → Int32), u = (fs, fl, fa, nI r, w, b, D, B, C, O, R) ∧ v = (fs, nI r, D, S) ∧ ps_Re fs fa w b r D B C O R S
theorem ps_mk {k : Nat} {fs fl fa w b : Int32} {r : Nat} {D B C O R S : Nat → Int32} (h : ps_Re fs fa w b r D B C O R S) : i_Rel k (fs, fl, fa, nI r, w, b, D, B, C, O, R) (fs, nI r, D, S) := ⟨fs, fl, fa, w, b, r, D, B, C, O, R, S, rfl, rfl, h⟩
/-- what is received is what was sent -/
theorem ps_ReC {fs fa w b : Int32} {r : Nat} {D B C O R S : Nat → Int32} (h : ps_Re fs fa w b r D B C O R S) : ∀ p, p < 81 → ps_rk p < r → C p = S p := by
  intro p hp hk
  rcases h.2.2.2.2 with z | ⟨_, d, g⟩
  · omega
  · rw [g.2.2.2.2.2.2 p hp hk, g.2.1 p hp]
theorem ps_Re0 {fs fa w b : Int32} {r : Nat} {D B C O R S : Nat → Int32} (h : ps_Re fs fa w b r D B C O R S) : fs = 0 → r = 0 := by
  intro e
  rcases h.2.2.2.2 with z | z
  · exact z.2
  · exact absurd (e.symm.trans z.1) (by decide)
theorem i_up {k : Nat} {u : SX} {v : SY} (h : i_Rel k u v) : i_Rel (k + 4) u v := h
theorem i_vc0 : wpX_init (fun u => wpY_init (fun v => i_Rel 0 u v)) := by
  refine ps_init fun O R h => ?_
  exact ps_mk (k := 0) (r := 0) ⟨h.1, fun q hq => h.2 q hq (ps_rk_lt q hq), fun _ => ps_By0, by decide, Or.inl ⟨rfl, rfl⟩⟩
theorem i_vc_draw {k : Nat} {u : SX} {v : SY} (I : i_Rel k u v) (hk : k + 4 ≤ 2048) (v1 : Int32) (v2 : Int32) (v3 : Int32) : wpX_draw (fun r u' => wpY_draw (fun r' v' => r' = r ∧ i_Rel (k + 4) u' v') v v1 v2 v3) u v1 v2 v3 := by
  obtain ⟨fs, fl, fa, w, b, r, D, B, C, O, R, S, rfl, rfl, h⟩ := I
  rcases ps_io v1 v2 with o | ⟨x, y, hx, hy, rfl, rfl⟩
  · unfold wpX_draw wpY_draw
    dsimp only
    exact ps_xout o (br_t rfl (ps_yout o (br_f (by decide) ⟨rfl, ps_mk h⟩)))
  · have hi : vp_in (nI (9 * y + x)) 81 := vp_in_nI (by omega) (by decide)
    have n1 : ¬ (1 : Int32) = 0 := by decide
    unfold wpX_draw wpY_draw
    dsimp only
    rw [ps_ix, nI_clamp (show 9 * y + x < 2 ^ 31 by omega)]
    refine ps_xin hx hy (br_f n1 ⟨hi, nm_e ⟨hi, nm_e (ps_yin hx hy (br_t rfl ⟨hi, nm_e ⟨hi, nm_e ⟨rfl, ps_mk ⟨h.1, h.2.1, ?_, h.2.2.2⟩⟩⟩⟩))⟩⟩)
    intro p
    by_cases e : p = 9 * y + x
    · subst e
      rw [pk_us]
      exact ps_By_and v3
    · rw [pk_un e]
      exact h.2.2.1 p
theorem i_vc_ramp {k : Nat} {u : SX} {v : SY} (I : i_Rel k u v) (hk : k + 4 ≤ 2048) (v1 : Int32) (v2 : Int32) (v3 : Int32) : wpX_ramp (fun u' => wpY_ramp (fun v' => i_Rel (k + 4) u' v') v v1 v2 v3) u v1 v2 v3 := by
  obtain ⟨fs, fl, fa, w, b, r, D, B, C, O, R, S, rfl, rfl, h⟩ := I
  unfold wpX_ramp wpY_ramp
  dsimp only
  refine ⟨10, ps_r3 ?_ 9 0 10 rfl (by decide)⟩
  refine ⟨82, ps_yr3 ?_ 81 0 82 rfl (by decide)⟩
  exact ps_mk ⟨h.1, h.2.1, ps_fl_By h.2.2.1 (fun p => ps_By_and _) 81, h.2.2.2⟩
theorem i_vc_send {k : Nat} {u : SX} {v : SY} (I : i_Rel k u v) (hk : k + 4 ≤ 2048) : wpX_send (fun u' => wpY_send (fun v' => i_Rel (k + 4) u' v') v) u := by
  obtain ⟨fs, fl, fa, w, b, r, D, B, C, O, R, S, rfl, rfl, h⟩ := I
  refine ps_send h.1 h.2.1 fun B' g => ?_
  unfold wpY_send
  dsimp only
  refine ⟨82, ps_ys2 ?_ 81 0 82 rfl (by decide)⟩
  exact ps_mk (r := 0) ⟨h.1, h.2.1, h.2.2.1, by decide, Or.inr ⟨rfl, D, h.2.2.1, fun p hp => ps_fl_lt D S 81 p hp, g, rfl, rfl, rfl, fun p _ z => absurd z (Nat.not_lt_zero _)⟩⟩
theorem i_vc_receive {k : Nat} {u : SX} {v : SY} (I : i_Rel k u v) (hk : k + 4 ≤ 2048) (v1 : Int32) : wpX_receive (fun r u' => wpY_receive (fun r' v' => r' = r ∧ i_Rel (k + 4) u' v') v v1) u v1 := by
  obtain ⟨fs, fl, fa, w, b, r, D, B, C, O, R, S, rfl, rfl, h⟩ := I
  unfold wpX_receive wpY_receive
  dsimp only
  have hr := h.2.2.2.1
  have n1 : ¬ (1 : Int32) = 0 := by decide
  have e81 : (81 : Int32) - nI r = nI (81 - r) := pk_sub (a := 81) hr
  rcases h.2.2.2.2 with z | ⟨rfl, d, hd, hS, hB, rfl, rfl, rfl, hC⟩
  · exact br_t z.1 (br_t z.1 ⟨rfl, ps_mk h⟩)
  · refine br_f n1 ?_
    by_cases hv : v1 < 0
    · have h0 : ¬ 0 ≤ v1 := Int32.not_le.mpr hv
      have h1 : v1 ≤ 0 := Int32.le_of_lt hv
      refine ⟨1, ?_⟩
      unfold wX_receive_11
      refine br_t h1 (br_f n1 (br_f h0 ?_))
      unfold wY_receive_18
      rw [e81]
      refine pk_le 0 (81 - r) (fun _ => nm_r (e' := nI r) (Int32.add_zero _) ⟨rfl, ps_mk h⟩) fun z => absurd z (by omega)
    · obtain ⟨e, he, rfl⟩ := nI_of hv
      have h0 : (0 : Int32) ≤ nI e := nI_pos' he
      by_cases hT : r + e ≤ 81
      · refine ⟨e + 1, ps_r11 (r0 := r) (T := r + e) he (Or.inl ⟨hT, rfl⟩) hd h.1 h.2.1 hB (fun C' hC' => ?_) e 0 (e + 1) C rfl (by omega) hC⟩
        refine br_f n1 (br_t h0 ?_)
        unfold wY_receive_18
        rw [e81]
        refine pk_le e (81 - r) (fun _ => nm_r (nI_add r e) ⟨rfl, ps_mk ?_⟩) fun z => absurd z (by omega)
        exact ⟨h.1, h.2.1, h.2.2.1, hT, Or.inr ⟨rfl, d, hd, hS, hB, rfl, rfl, rfl, hC'⟩⟩
      · refine ⟨82, ps_r11 (r0 := r) (T := 81) he (Or.inr ⟨by omega, rfl⟩) hd h.1 h.2.1 hB (fun C' hC' => ?_) (81 - r) 0 82 C (by omega) (by omega) hC⟩
        refine br_f n1 (br_t h0 ?_)
        unfold wY_receive_18
        rw [e81]
        refine pk_le e (81 - r) (fun z => absurd z (by omega)) fun _ => ⟨rfl, ps_mk (r := 81) ?_⟩
        exact ⟨h.1, h.2.1, h.2.2.1, by decide, Or.inr ⟨rfl, d, hd, hS, hB, rfl, rfl, rfl, hC'⟩⟩
theorem i_vc_pixel {k : Nat} {u : SX} {v : SY} (I : i_Rel k u v) (hk : k + 4 ≤ 2048) (v1 : Int32) (v2 : Int32) : wpX_pixel (fun r => wpY_pixel (fun r' => r' = r ∧ i_Rel (k + 4) u v) v v1 v2) u v1 v2 := by
  obtain ⟨fs, fl, fa, w, b, r, D, B, C, O, R, S, rfl, rfl, h⟩ := I
  have J : i_Rel (k + 4) (fs, fl, fa, nI r, w, b, D, B, C, O, R) (fs, nI r, D, S) := ps_mk h
  rcases ps_io v1 v2 with o | ⟨x, y, hx, hy, rfl, rfl⟩
  · unfold wpX_pixel wpY_pixel
    dsimp only
    exact ps_xout o (br_t rfl (ps_yout o (br_f (by decide) ⟨rfl, J⟩)))
  · have hi : vp_in (nI (9 * y + x)) 81 := vp_in_nI (by omega) (by decide)
    have n1 : ¬ (1 : Int32) = 0 := by decide
    have hp : 9 * y + x < 81 := by omega
    have hq := ps_rk_lt _ hp
    have hr := h.2.2.2.1
    unfold wpX_pixel wpY_pixel
    dsimp only
    rw [ps_ix, nI_clamp (show 9 * y + x < 2 ^ 31 by omega), h.2.1 _ hp]
    refine ps_xin hx hy (br_f n1 (br_c (fun z => ?_) fun z => ⟨hi, ?_⟩))
    · exact ps_yin hx hy (br_t rfl (br_t z ⟨rfl, J⟩))
    · refine pk_lt (ps_rk (9 * y + x)) r (fun a => ⟨hi, ?_⟩) (fun a => ?_)
      · refine ps_yin hx hy (br_t rfl (br_f z (ps_place hp ?_)))
        exact pk_lt (ps_rk (9 * y + x)) r (fun _ => ⟨hi, (ps_ReC h _ hp a).symm, J⟩) (fun c => absurd c (by omega))
      · refine ps_yin hx hy (br_t rfl (br_f z (ps_place hp ?_)))
        exact pk_lt (ps_rk (9 * y + x)) r (fun c => absurd c (by omega)) (fun _ => ⟨rfl, J⟩)
theorem i_vc_rank {k : Nat} {u : SX} {v : SY} (I : i_Rel k u v) (hk : k + 4 ≤ 2048) (v1 : Int32) (v2 : Int32) : wpX_rank (fun r => wpY_rank (fun r' => r' = r ∧ i_Rel (k + 4) u v) v v1 v2) u v1 v2 := by
  obtain ⟨fs, fl, fa, w, b, r, D, B, C, O, R, S, rfl, rfl, h⟩ := I
  have J : i_Rel (k + 4) (fs, fl, fa, nI r, w, b, D, B, C, O, R) (fs, nI r, D, S) := ps_mk h
  rcases ps_io v1 v2 with o | ⟨x, y, hx, hy, rfl, rfl⟩
  · unfold wpX_rank wpY_rank
    dsimp only
    exact ps_xout o (br_t rfl (ps_yout o (br_f (by decide) ⟨rfl, J⟩)))
  · have hi : vp_in (nI (9 * y + x)) 81 := vp_in_nI (by omega) (by decide)
    have n1 : ¬ (1 : Int32) = 0 := by decide
    have hp : 9 * y + x < 81 := by omega
    unfold wpX_rank wpY_rank
    dsimp only
    rw [ps_ix, nI_clamp (show 9 * y + x < 2 ^ 31 by omega), h.2.1 _ hp]
    exact ps_xin hx hy (br_f n1 ⟨hi, ps_yin hx hy (br_t rfl (ps_place hp ⟨rfl, J⟩))⟩)
theorem i_vc_count {k : Nat} {u : SX} {v : SY} (I : i_Rel k u v) (hk : k + 4 ≤ 2048) (v1 : Int32) (v2 : Int32) : wpX_count (fun r => wpY_count (fun r' => r' = r ∧ i_Rel (k + 4) u v) v v1 v2) u v1 v2 := by
  obtain ⟨fs, fl, fa, w, b, r, D, B, C, O, R, S, rfl, rfl, h⟩ := I
  have J : i_Rel (k + 4) (fs, fl, fa, nI r, w, b, D, B, C, O, R) (fs, nI r, D, S) := ps_mk h
  have hr := h.2.2.2.1
  have hC := ps_ReC h
  let g : Nat → Int32 := fun p => if ps_rk p < r then ps_ct v1 v2 (S p) else 0
  have g0 : ∀ p, r ≤ ps_rk p → g p = 0 := fun p z => if_neg (by omega)
  have g1 : ∀ p, ps_rk p < r → g p = ps_ct v1 v2 (S p) := fun p z => if_pos z
  unfold wpX_count wpY_count
  dsimp only
  refine ⟨82, ps_xc5 (g := fun k => g (ps_od k)) hr (ps_Re0 h) h.1 (fun k hk z => g0 _ (by rw [ps_rk_od k hk]; exact z)) (fun k hk z => ?_) ?_ 81 0 82 rfl (by decide)⟩
  · have hz : ps_rk (ps_od k) < r := by rw [ps_rk_od k hk]; exact z
    show g (ps_od k) = _
    rw [g1 _ hz, hC _ (ps_od_lt k hk) hz]
  · rw [ps_sm_p]
    exact ⟨82, ps_yc5 (g := g) hr (fun p _ => g0 p) (fun p _ => g1 p) ⟨rfl, J⟩ 81 0 82 rfl (by decide)⟩
theorem i_vc_sum {k : Nat} {u : SX} {v : SY} (I : i_Rel k u v) (hk : k + 4 ≤ 2048) : wpX_sum (fun r => wpY_sum (fun r' => r' = r ∧ i_Rel (k + 4) u v) v) u := by
  obtain ⟨fs, fl, fa, w, b, r, D, B, C, O, R, S, rfl, rfl, h⟩ := I
  have J : i_Rel (k + 4) (fs, fl, fa, nI r, w, b, D, B, C, O, R) (fs, nI r, D, S) := ps_mk h
  have hr := h.2.2.2.1
  have hC := ps_ReC h
  let g : Nat → Int32 := fun p => if ps_rk p < r then S p else 0
  have g0 : ∀ p, r ≤ ps_rk p → g p = 0 := fun p z => if_neg (by omega)
  have g1 : ∀ p, ps_rk p < r → g p = S p := fun p z => if_pos z
  unfold wpX_sum wpY_sum
  dsimp only
  refine ⟨82, ps_xs4 (g := fun k => g (ps_od k)) hr (ps_Re0 h) h.1 (fun k hk z => g0 _ (by rw [ps_rk_od k hk]; exact z)) (fun k hk z => ?_) ?_ 81 0 82 rfl (by decide)⟩
  · have hz : ps_rk (ps_od k) < r := by rw [ps_rk_od k hk]; exact z
    show g (ps_od k) = _
    rw [g1 _ hz, hC _ (ps_od_lt k hk) hz]
  · rw [ps_sm_p]
    exact ⟨82, ps_ysm (g := g) hr (fun p _ => g0 p) (fun p _ => g1 p) ⟨rfl, J⟩ 81 0 82 rfl (by decide)⟩
end
