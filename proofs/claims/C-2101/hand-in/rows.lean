section
/-! rows pasted from kit/rows (starting text) -/
theorem pk_us {f : Nat → Int32} {k : Nat} {x : Int32} : upd f k x k = x := if_pos rfl
theorem pk_un {f : Nat → Int32} {k j : Nat} {x : Int32} (h : j ≠ k) : upd f k x j = f j := if_neg h
theorem pk_sub {a b : Nat} (h : b ≤ a) : nI a - nI b = nI (a - b) := by
  obtain ⟨c, rfl⟩ : ∃ c, a = c + b := ⟨a - b, by omega⟩
  rw [← nI_add, Int32.add_sub_cancel, Nat.add_sub_cancel]
theorem pk_m1 (n : Nat) : nI (n + 1) + (-1) = nI n := by
  rw [← nI_1, Int32.add_assoc, show (1 : Int32) + (-1) = 0 from rfl, Int32.add_zero]
theorem pk_mul (a b : Nat) : nI a * nI b = nI (a * b) := (Int32.ofNat_mul a b).symm
theorem pk_div {a d : Nat} (ha : a < 2 ^ 31) (h0 : 0 < d) (hd : d < 2 ^ 31) : nI a / nI d = nI (a / d) := by
  apply Int32.toInt_inj.mp
  rw [lg_idiv_nonneg (by rw [nI_toInt ha]; omega) (by rw [nI_toInt hd]; omega), nI_toInt ha, nI_toInt hd, nI_toInt (Nat.lt_of_le_of_lt (Nat.div_le_self a d) ha)]
  first | rfl | exact (Int.natCast_ediv _ _).symm
theorem pk_rem {a d : Nat} (ha : a < 2 ^ 31) (h0 : 0 < d) (hd : d < 2 ^ 31) : nI a - nI a / nI d * nI d = nI (a % d) := by
  rw [pk_div ha h0 hd, pk_mul, pk_sub (Nat.div_mul_le_self a d)]
  exact congrArg nI (by have := Nat.div_add_mod' a d; omega)
theorem pk_sub_toInt {a b : Nat} (ha : a < 2 ^ 30) (hb : b < 2 ^ 30) : (nI a - nI b).toInt = (a : Int) - b := by
  rw [Int32.toInt_sub, nI_toInt (by omega), nI_toInt (by omega)]
  exact Int.bmod_eq_of_le (by omega) (by omega)
theorem pk_sneg {a b : Nat} (hb : b < 2 ^ 30) (h : a < b) : nI a - nI b < 0 := by
  rw [Int32.lt_iff_toInt_lt, pk_sub_toInt (by omega) hb, show (0 : Int32).toInt = 0 from by decide]
  omega
theorem pk_ix (x : Int32) {n : Nat} (hn : n < 2 ^ 31) : x < 0 ∨ nI n ≤ x ∨ ∃ j : Nat, j < n ∧ x = nI j := by
  by_cases h : x < 0
  · exact Or.inl h
  · obtain ⟨j, hj, rfl⟩ := nI_of h
    by_cases h2 : j < n
    · exact Or.inr (Or.inr ⟨j, h2, rfl⟩)
    · exact Or.inr (Or.inl (nI_le (by omega) hj))
theorem pk_le {x y : Int32} {A B : Prop} (a b : Nat) (f : a ≤ b → A) (g : b < a → B) (hx : x = nI a := by rfl) (hy : y = nI b := by rfl) (ha : a < 2 ^ 31 := by omega) (hb : b < 2 ^ 31 := by omega) : (x ≤ y → A) ∧ (¬ x ≤ y → B) := by
  subst hx hy
  rw [nI_leI ha hb]
  exact ⟨f, fun z => g (by omega)⟩
theorem pk_lt {x y : Int32} {A B : Prop} (a b : Nat) (f : a < b → A) (g : b ≤ a → B) (hx : x = nI a := by rfl) (hy : y = nI b := by rfl) (ha : a < 2 ^ 31 := by omega) (hb : b < 2 ^ 31 := by omega) : (x < y → A) ∧ (¬ x < y → B) := by
  subst hx hy
  rw [nI_ltI ha hb]
  exact ⟨f, fun z => g (by omega)⟩
theorem pk_eq {x y : Int32} {A B : Prop} (a b : Nat) (f : a = b → A) (g : a ≠ b → B) (hx : x = nI a := by rfl) (hy : y = nI b := by rfl) (ha : a < 2 ^ 31 := by omega) (hb : b < 2 ^ 31 := by omega) : (x = y → A) ∧ (¬ x = y → B) := by
  subst hx hy
  rw [nI_eq ha hb]
  exact ⟨f, g⟩
theorem pk_in {x : Int32} (n N : Nat) (h : n < N) (hx : x = nI n := by rfl) (hN : N < 2 ^ 31 := by omega) : vp_in x N := by
  subst hx
  exact vp_in_nI h hN
theorem pk_cl {x : Int32} (n : Nat) (hx : x = nI n := by rfl) (h : n < 2 ^ 31 := by omega) : x.toNatClampNeg = n := by
  subst hx
  exact nI_clamp h
theorem pk_tn {n : Nat} (h : n < 2 ^ 32) : (nI n).toBitVec.toNat = n := Nat.mod_eq_of_lt h
theorem pk_and (x : Int32) {m : Int32} (k : Nat) (hm : m.toBitVec.toNat = 2 ^ k - 1) : x &&& m = nI (x.toBitVec.toNat % 2 ^ k) := by
  apply Int32.toBitVec_inj.mp
  apply BitVec.eq_of_toNat_eq
  rw [Int32.toBitVec_and, BitVec.toNat_and, hm, Nat.and_two_pow_sub_one_eq_mod]
  show _ = (BitVec.ofNat 32 _).toNat
  rw [BitVec.toNat_ofNat]
  exact (Nat.mod_eq_of_lt (Nat.lt_of_le_of_lt (Nat.mod_le _ _) x.toBitVec.isLt)).symm
theorem pk_andN {n : Nat} (h : n < 2 ^ 32) {m : Int32} (k : Nat) (hm : m.toBitVec.toNat = 2 ^ k - 1) : nI n &&& m = nI (n % 2 ^ k) := by
  rw [pk_and _ k hm, pk_tn h]
theorem pk_andE (x : Int32) {m : Int32} (k : Nat) (hm : m.toBitVec.toNat = 2 ^ k - 1) : ∃ j : Nat, j < 2 ^ k ∧ x &&& m = nI j := ⟨_, Nat.mod_lt _ (Nat.two_pow_pos k), pk_and x k hm⟩
theorem pk_andIn (x : Int32) {m : Int32} (k : Nat) (hm : m.toBitVec.toNat = 2 ^ k - 1) (hk : k ≤ 30) : vp_in (x &&& m) (2 ^ k) := by
  obtain ⟨j, hj, e⟩ := pk_andE x k hm
  rw [e]
  exact vp_in_nI hj (Nat.lt_of_le_of_lt (Nat.pow_le_pow_right (by decide) hk) (by decide))
theorem pk_shl (a s : Int32) (k : Nat) (hs : (s.toBitVec.smod 32).toNat = k) : (a <<< s).toBitVec.toNat = a.toBitVec.toNat * 2 ^ k % 2 ^ 32 := by
  show (a.toBitVec <<< (s.toBitVec.smod 32).toNat).toNat = _
  rw [hs, BitVec.toNat_shiftLeft, Nat.shiftLeft_eq]
theorem pk_shlN {n : Nat} (s : Int32) (k : Nat) (hs : (s.toBitVec.smod 32).toNat = k) (h : n * 2 ^ k < 2 ^ 32) : nI n <<< s = nI (n * 2 ^ k) := by
  apply Int32.toBitVec_inj.mp
  apply BitVec.eq_of_toNat_eq
  have hn : n < 2 ^ 32 := Nat.lt_of_le_of_lt (Nat.le_mul_of_pos_right n (Nat.two_pow_pos k)) h
  rw [pk_shl _ _ k hs, pk_tn hn, pk_tn h, Nat.mod_eq_of_lt h]
theorem pk_shr (a s : Int32) (k : Nat) (hs : (s.toBitVec.smod 32).toNat = k) : (a >>> s).toInt = a.toInt >>> k := by
  show (a.toBitVec.sshiftRight (s.toBitVec.smod 32).toNat).toInt = _
  rw [hs, BitVec.toInt_sshiftRight]
  rfl
theorem pk_shrN {n : Nat} (h : n < 2 ^ 31) (s : Int32) (k : Nat) (hs : (s.toBitVec.smod 32).toNat = k) : nI n >>> s = nI (n / 2 ^ k) := by
  apply Int32.toInt_inj.mp
  have h2 : n / 2 ^ k ≤ n := Nat.div_le_self _ _
  rw [pk_shr _ _ k hs, nI_toInt h, nI_toInt (by omega), Int.shiftRight_eq_div_pow]
  rfl
theorem pk_ushr (x s : Int32) (k : Nat) (hs : ((s.toUInt32 &&& Int32.toUInt32 31).toBitVec % 32).toNat = k) : (x.toUInt32 >>> (s.toUInt32 &&& Int32.toUInt32 31)).toInt32.toBitVec.toNat = x.toBitVec.toNat / 2 ^ k := by
  have e : (x.toUInt32 >>> (s.toUInt32 &&& Int32.toUInt32 31)).toInt32.toBitVec = x.toBitVec >>> k := by
    rw [← hs]
    exact UInt32.toBitVec_shiftRight _ _
  rw [e, BitVec.toNat_ushiftRight, Nat.shiftRight_eq_div_pow]
theorem pk_ushrN {n : Nat} (hn : n < 2 ^ 32) (s : Int32) (k : Nat) (hs : ((s.toUInt32 &&& Int32.toUInt32 31).toBitVec % 32).toNat = k) : ((nI n).toUInt32 >>> (s.toUInt32 &&& Int32.toUInt32 31)).toInt32 = nI (n / 2 ^ k) := by
  apply Int32.toBitVec_inj.mp
  apply BitVec.eq_of_toNat_eq
  rw [pk_ushr _ s k hs, pk_tn hn, pk_tn (Nat.lt_of_le_of_lt (Nat.div_le_self _ _) hn)]
theorem ek_if {c d A B : Prop} (e : c ↔ d) (f : d → A) (g : ¬ d → B) : (c → A) ∧ (¬ c → B) :=
  ⟨fun z => f (e.mp z), fun z => g (fun y => z (e.mpr y))⟩
theorem ek_v {α : Sort _} {P : α → Prop} {a b : α} (e : a = b) (h : P b) : P a := e ▸ h
/-! ===== Int32 by its bits: bt x i ===== -/
def bt (x : Int32) (i : Nat) : Bool := x.toBitVec.getLsbD i
theorem b_ext {x y : Int32} (h : ∀ i, i < 32 → bt x i = bt y i) : x = y := Int32.toBitVec_inj.mp (BitVec.eq_of_getLsbD_eq (fun i hi => h i hi))
theorem b_or (x y : Int32) (i : Nat) : bt (x ||| y) i = (bt x i || bt y i) := by unfold bt; rw [Int32.toBitVec_or, BitVec.getLsbD_or]
theorem b_and (x y : Int32) (i : Nat) : bt (x &&& y) i = (bt x i && bt y i) := by unfold bt; rw [Int32.toBitVec_and, BitVec.getLsbD_and]
theorem b_xor (x y : Int32) (i : Nat) : bt (x ^^^ y) i = (bt x i ^^ bt y i) := by unfold bt; rw [Int32.toBitVec_xor, BitVec.getLsbD_xor]
theorem b_big {x : Int32} {i : Nat} (h : 32 ≤ i) : bt x i = false := BitVec.getLsbD_of_ge _ _ h
theorem b_255 (i : Nat) : bt 255 i = decide (i < 8) := by
  rcases Nat.lt_or_ge i 32 with h | h
  · exact (by decide +kernel : ∀ i, i < 32 → bt 255 i = decide (i < 8)) i h
  · rw [b_big h, decide_eq_false (by omega)]
theorem b_65535 (i : Nat) : bt 65535 i = decide (i < 16) := by
  rcases Nat.lt_or_ge i 32 with h | h
  · exact (by decide +kernel : ∀ i, i < 32 → bt 65535 i = decide (i < 16)) i h
  · rw [b_big h, decide_eq_false (by omega)]
theorem b_m1 : ∀ i, i < 32 → bt (-1) i = true := by decide +kernel
theorem b_0 (i : Nat) : bt 0 i = false := BitVec.getLsbD_zero
theorem s_l : ∀ n, n < 32 → ((nI n &&& 31).toBitVec.smod 32).toNat = n := by decide +kernel
theorem s_u : ∀ n, n < 32 → (((nI n).toUInt32 &&& Int32.toUInt32 31).toBitVec % 32).toNat = n := by decide +kernel
theorem b_shl (n : Nat) (hn : n < 32) (x : Int32) {i : Nat} (hi : i < 32) : bt (x <<< (nI n &&& 31)) i = (decide (n ≤ i) && bt x (i - n)) := by
  unfold bt
  rw [Int32.toBitVec_shiftLeft]
  show (x.toBitVec <<< ((nI n &&& 31).toBitVec.smod 32).toNat).getLsbD i = _
  rw [s_l n hn, BitVec.getLsbD_shiftLeft]
  rcases Nat.lt_or_ge i n with h | h
  · simp [h, Nat.not_le.mpr h]
  · simp [hi, h, Nat.not_lt.mpr h]
theorem b_ushr (n : Nat) (hn : n < 32) (x : Int32) (i : Nat) : bt ((x.toUInt32 >>> ((nI n).toUInt32 &&& Int32.toUInt32 31)).toInt32) i = bt x (n + i) := by
  show (x.toUInt32 >>> ((nI n).toUInt32 &&& Int32.toUInt32 31)).toBitVec.getLsbD i = x.toUInt32.toBitVec.getLsbD (n + i)
  rw [UInt32.toBitVec_shiftRight]
  show (x.toUInt32.toBitVec >>> (((nI n).toUInt32 &&& Int32.toUInt32 31).toBitVec % 32).toNat).getLsbD i = _
  rw [s_u n hn, BitVec.getLsbD_ushiftRight]
theorem b_sshr (n : Nat) (hn : n < 32) (x : Int32) {i : Nat} (hi : i < 32) : bt (x >>> (nI n &&& 31)) i = if n + i < 32 then bt x (n + i) else bt x 31 := by
  unfold bt
  rw [Int32.toBitVec_shiftRight]
  show (x.toBitVec.sshiftRight ((nI n &&& 31).toBitVec.smod 32).toNat).getLsbD i = _
  rw [s_l n hn, BitVec.getLsbD_sshiftRight, BitVec.msb_eq_getLsbD_last]
  simp [hi]
theorem b_shl8 (x : Int32) {i : Nat} (hi : i < 32) : bt (x <<< ((8 : Int32) &&& 31)) i = (decide (8 ≤ i) && bt x (i - 8)) := b_shl 8 (by omega) x hi
theorem b_shl16 (x : Int32) {i : Nat} (hi : i < 32) : bt (x <<< ((16 : Int32) &&& 31)) i = (decide (16 ≤ i) && bt x (i - 16)) := b_shl 16 (by omega) x hi
theorem b_shl24 (x : Int32) {i : Nat} (hi : i < 32) : bt (x <<< ((24 : Int32) &&& 31)) i = (decide (24 ≤ i) && bt x (i - 24)) := b_shl 24 (by omega) x hi
theorem b_sshr8 (x : Int32) {i : Nat} (hi : i < 32) : bt (x >>> ((8 : Int32) &&& 31)) i = if 8 + i < 32 then bt x (8 + i) else bt x 31 := b_sshr 8 (by omega) x hi
theorem nx_and (a b : Nat) : nI a &&& nI b = nI (a &&& b) := by
  apply Int32.toBitVec_inj.1
  show BitVec.ofNat 32 a &&& BitVec.ofNat 32 b = BitVec.ofNat 32 (a &&& b)
  apply BitVec.eq_of_getLsbD_eq
  intro i hi
  simp [hi]
end
section
/-! the state of X as two functions by field; small lemmas on reads, writes, bits -/
def ft_un (f : Nat → Nat) (i v : Nat) : Nat → Nat := fun j => if j = i then v else f j
def ft_nA (f : Nat → Nat) : Nat → Int32 := fun j => nI (f j)
def ft_nB (f : Nat → Nat) : Nat → Int32 := fun j => nI (f j) - 1
def ft_sa (σ : Nat → Nat → Nat) (f : Nat) (a : Nat → Nat) : Nat → Nat → Nat := fun g => cond (Nat.beq g f) a (σ g)
def ft_ra (ρ : Nat → Nat → Int32) (f : Nat) (a : Nat → Int32) : Nat → Nat → Int32 := fun g => cond (Nat.beq g f) a (ρ g)
def ft_cv (σ : Nat → Nat → Nat) (ρ : Nat → Nat → Int32) : SX := ((nI (σ 0 0)), (nI (σ 1 0)), (nI (σ 2 0)), (nI (σ 3 0)), (nI (σ 4 0)), (ρ 5 0), (nI (σ 6 0)), (ρ 7 0), (ρ 8), (ft_nA (σ 9)), (ft_nA (σ 10)), (ft_nA (σ 11)), (ρ 12), (ρ 13), (ft_nA (σ 14)), (ft_nA (σ 15)), (ft_nA (σ 16)), (ft_nA (σ 17)), (ft_nA (σ 18)), (ft_nA (σ 19)), (ft_nA (σ 20)), (ft_nB (σ 21)), (ft_nA (σ 22)), (ft_nA (σ 23)), (ft_nA (σ 24)), (ρ 25), (ft_nA (σ 26)), (ft_nA (σ 27)), (ft_nA (σ 28)), (ft_nA (σ 29)), (ρ 30), (ft_nA (σ 31)), (ρ 32), (ft_nA (σ 33)))
theorem ft_unS {f : Nat → Nat} {i v : Nat} : ft_un f i v i = v := if_pos rfl
theorem ft_unN {f : Nat → Nat} {i j v : Nat} (h : j ≠ i) : ft_un f i v j = f j := if_neg h
theorem ft_unE (f : Nat → Nat) (i v j : Nat) : ft_un f i v j = if j = i then v else f j := rfl
theorem ft_unId (f : Nat → Nat) (i : Nat) : ft_un f i (f i) = f := by
  funext j
  unfold ft_un
  split
  · next h => rw [h]
  · rfl
theorem ft_unUn (f : Nat → Nat) (i u v : Nat) : ft_un (ft_un f i u) i v = ft_un f i v := by
  funext j
  unfold ft_un
  split <;> rfl
theorem ft_rd {f : Nat → Nat} {i : Nat} (h : i < 2147483648) : ft_nA f (nI i).toNatClampNeg = nI (f i) := by
  rw [nI_clamp h]
  rfl
theorem ft_rdI {f : Nat → Nat} {i : Nat} {y : Int32} (hy : y = nI i) (h : i < 2147483648) : ft_nA f y.toNatClampNeg = nI (f i) := by
  rw [hy, nI_clamp h]
  rfl
theorem ft_rdB {f : Nat → Nat} {i : Nat} (h : i < 2147483648) : ft_nB f (nI i).toNatClampNeg = nI (f i) - 1 := by
  rw [nI_clamp h]
  rfl
theorem ft_rR {a : Nat → Int32} {i : Nat} (h : i < 2147483648) : a (nI i).toNatClampNeg = a i := by
  rw [nI_clamp h]
theorem ft_rRI {a : Nat → Int32} {i : Nat} {y : Int32} (hy : y = nI i) (h : i < 2147483648) : a y.toNatClampNeg = a i := by
  rw [hy, nI_clamp h]
theorem ft_wrI {f : Nat → Nat} {i v : Nat} {x y : Int32} (hy : y = nI i) (h : i < 2147483648) (hx : x = nI v := by rfl) : upd (ft_nA f) y.toNatClampNeg x = ft_nA (ft_un f i v) := by
  subst hx hy
  rw [nI_clamp h]
  funext j
  unfold upd ft_nA ft_un
  split <;> rfl
theorem ft_wr {f : Nat → Nat} {i v : Nat} {x : Int32} (h : i < 2147483648) (hx : x = nI v := by rfl) : upd (ft_nA f) (nI i).toNatClampNeg x = ft_nA (ft_un f i v) := ft_wrI rfl h hx
theorem ft_wrB {f : Nat → Nat} {i v : Nat} {x : Int32} (h : i < 2147483648) (hx : x = nI v - 1) : upd (ft_nB f) (nI i).toNatClampNeg x = ft_nB (ft_un f i v) := by
  subst hx
  rw [nI_clamp h]
  funext j
  unfold upd ft_nB ft_un
  split <;> rfl
theorem ft_wRI {a : Nat → Int32} {i : Nat} {x z y : Int32} (hy : y = nI i) (h : i < 2147483648) (hx : x = z := by rfl) : upd a y.toNatClampNeg x = upd a i z := by
  subst hx hy
  rw [nI_clamp h]
theorem ft_wR {a : Nat → Int32} {i : Nat} {x z : Int32} (h : i < 2147483648) (hx : x = z := by rfl) : upd a (nI i).toNatClampNeg x = upd a i z := ft_wRI rfl h hx
theorem ft_l4 (w r : Nat) : (4 : Int32) * nI w + nI r = nI (4 * w + r) := by
  rw [← nI_add, ← pk_mul]; rfl
theorem ft_l8 (w r : Nat) : (8 : Int32) * nI w + nI r = nI (8 * w + r) := by
  rw [← nI_add, ← pk_mul]; rfl
theorem ft_l12 (w r : Nat) : (12 : Int32) * nI w + nI r = nI (12 * w + r) := by
  rw [← nI_add, ← pk_mul]; rfl
theorem ft_l16 (w r : Nat) : (16 : Int32) * nI w + nI r = nI (16 * w + r) := by
  rw [← nI_add, ← pk_mul]; rfl
theorem ft_inE {x : Int32} {i N : Nat} (hx : x = nI i) (h : i < N) (hN : N < 2147483648 := by decide) : vp_in x N := by
  subst hx
  exact vp_in_nI h hN
theorem ft_in {i N : Nat} (h : i < N) (hN : N < 2147483648 := by decide) : vp_in (nI i) N := vp_in_nI h hN
/-! bits -/
theorem ft_bt (m c : Nat) (hc : c < 32) : bt (nI m) c = m.testBit c := by
  unfold bt
  show (BitVec.ofNat 32 m).getLsbD c = m.testBit c
  rw [BitVec.getLsbD_ofNat]
  simp [hc]
theorem ft_b1 (x : Int32) : (x &&& 1) = 1 ↔ bt x 0 = true := by
  rw [pk_and x 1 (by decide)]
  rw [show (1 : Int32) = nI 1 from rfl, nI_eq (by omega) (by omega)]
  unfold bt
  rw [BitVec.getLsbD, Nat.testBit_zero]
  simp
theorem ft_bit {m c : Nat} (hc : c < 32) : ((nI m >>> (nI c &&& 31)) &&& 1) = 1 ↔ m.testBit c = true := by
  rw [ft_b1, b_sshr c hc _ (by omega), Nat.add_zero, if_pos hc, ft_bt m c hc]
theorem ft_orN (a b : Nat) : nI a ||| nI b = nI (a ||| b) := by
  apply Int32.toBitVec_inj.1
  show BitVec.ofNat 32 a ||| BitVec.ofNat 32 b = BitVec.ofNat 32 (a ||| b)
  apply BitVec.eq_of_getLsbD_eq
  intro i hi
  simp [hi]
theorem ft_sh1 : ∀ c, c < 31 → (1 : Int32) <<< (nI c &&& 31) = nI (2 ^ c) := by decide +kernel
theorem ft_or {m c : Nat} (hc : c < 31) : nI m ||| ((1 : Int32) <<< (nI c &&& 31)) = nI (m ||| 2 ^ c) := by
  rw [ft_sh1 c hc, ft_orN]
theorem ft_sub {z m : Nat} (hz : z < 65536) : (nI z &&& (nI m ^^^ (-1))) = 0 ↔ ∀ c, c < 16 → z.testBit c = true → m.testBit c = true := by
  constructor
  · intro h c hc hb
    have e : bt (nI z &&& (nI m ^^^ (-1))) c = bt 0 c := by rw [h]
    rw [b_and, b_xor, b_0, b_m1 c (by omega), ft_bt _ _ (by omega), ft_bt _ _ (by omega), hb] at e
    simpa using e
  · intro h
    apply b_ext
    intro i hi
    rw [b_and, b_xor, b_0, b_m1 i hi, ft_bt _ _ hi, ft_bt _ _ hi]
    by_cases h16 : i < 16
    · cases hb : z.testBit i with
      | false => rfl
      | true => rw [h i h16 hb]; rfl
    · have : z.testBit i = false := Nat.testBit_lt_two_pow (Nat.lt_of_lt_of_le hz (by rw [show (65536 : Nat) = 2 ^ 16 from rfl]; exact Nat.pow_le_pow_right (by decide) (by omega)))
      rw [this]; rfl
theorem ft_orB (m c i : Nat) : (m ||| 2 ^ c).testBit i = (m.testBit i || decide (c = i)) := by
  rw [Nat.testBit_or, Nat.testBit_two_pow]
theorem ft_orL {m c : Nat} (hm : m < 65536) (hc : c < 16) : m ||| 2 ^ c < 65536 := by
  have h : (2 : Nat) ^ c < 2 ^ 16 := Nat.pow_lt_pow_right (by decide) hc
  exact Nat.or_lt_two_pow (n := 16) hm h
/-- the cell that an int names -/
def mc_c (x : Int32) : Nat := x.toBitVec.toNat % 16
theorem mc_cL (x : Int32) : mc_c x < 16 := Nat.mod_lt _ (by decide)
theorem mc_cE (x : Int32) : x &&& 15 = nI (mc_c x) := pk_and x 4 (by decide)
/-- the newest before t with a version of c, plus 1; 0 if none -/
def ft_nb (wr : Nat → Nat) (c : Nat) : Nat → Nat
  | 0 => 0
  | t + 1 => if (wr t).testBit c = true then t + 1 else ft_nb wr c t
theorem ft_nb_le (wr : Nat → Nat) (c : Nat) : ∀ t, ft_nb wr c t ≤ t := by
  intro t
  induction t with
  | zero => exact Nat.le_refl _
  | succ t ih =>
    unfold ft_nb
    split
    · exact Nat.le_refl _
    · omega
theorem ft_nb_bit (wr : Nat → Nat) (c : Nat) : ∀ t f, ft_nb wr c t = f + 1 → (wr f).testBit c = true := by
  intro t
  induction t with
  | zero => intro f h; exact absurd h (by unfold ft_nb; omega)
  | succ t ih =>
    intro f h
    unfold ft_nb at h
    split at h
    · next hb => have : t = f := by omega
                 rw [← this]; exact hb
    · exact ih f h
theorem ft_nb_off (wr : Nat → Nat) (c : Nat) : ∀ t j, ft_nb wr c t ≤ j → j < t → (wr j).testBit c = false := by
  intro t
  induction t with
  | zero => intro j _ h; omega
  | succ t ih =>
    intro j h1 h2
    unfold ft_nb at h1
    split at h1
    · omega
    · next hb =>
      by_cases hj : j = t
      · rw [hj]; simpa using hb
      · exact ih j h1 (by omega)
/-- what makes it so -/
theorem ft_nb_of (wr : Nat → Nat) (c : Nat) : ∀ t r, r ≤ t → (∀ f, r = f + 1 → (wr f).testBit c = true) → (∀ j, r ≤ j → j < t → (wr j).testBit c = false) → ft_nb wr c t = r := by
  intro t
  induction t with
  | zero => intro r h _ _; unfold ft_nb; omega
  | succ t ih =>
    intro r h h1 h2
    unfold ft_nb
    by_cases hr : r = t + 1
    · rw [h1 t hr, if_pos rfl, hr]
    · rw [h2 t (by omega) (by omega), if_neg (by decide)]
      exact ih r (by omega) h1 (fun j a b => h2 j a (by omega))
theorem ft_nb_congr {wr wr' : Nat → Nat} {c : Nat} : ∀ t, (∀ j, j < t → wr' j = wr j) → ft_nb wr' c t = ft_nb wr c t := by
  intro t
  induction t with
  | zero => intro _; rfl
  | succ t ih =>
    intro h
    unfold ft_nb
    rw [h t (by omega), ih (fun j hj => h j (by omega))]
/-! reads in place -/
theorem ft_rd1 {f : Nat → Nat} {i : Nat} (h : i < 2147483648) : ft_nA f (nI i).toNatClampNeg + 1 = nI (f i + 1) := by
  rw [ft_rd h, nI_1]
theorem ft_rdZ {f : Nat → Nat} {i : Nat} (h : i < 2147483648) : ft_nA f (nI i).toNatClampNeg + 0 = nI (f i) := by
  rw [ft_rd h, Int32.add_zero]
theorem ft_rdOr {f : Nat → Nat} {i c : Nat} (h : i < 2147483648) (hc : c < 31) : ft_nA f (nI i).toNatClampNeg ||| ((1 : Int32) <<< (nI c &&& 31)) = nI (f i ||| 2 ^ c) := by
  rw [ft_rd h, ft_or hc]
theorem ft_bitA {f : Nat → Nat} {i c : Nat} (h : i < 2147483648) (hc : c < 32) : ((ft_nA f (nI i).toNatClampNeg >>> (nI c &&& 31)) &&& 1) = 1 ↔ (f i).testBit c = true := by
  rw [ft_rd h]
  exact ft_bit hc
theorem ft_l12A {f : Nat → Nat} {i t : Nat} (h : i < 2147483648) : (12 : Int32) * nI t + ft_nA f (nI i).toNatClampNeg = nI (12 * t + f i) := by
  rw [ft_rd h]
  exact ft_l12 _ _
theorem ft_shA {f : Nat → Nat} {i w : Nat} (h : i < 2147483648) (hf : f i < 2147483648) : (4 : Int32) * nI w + (ft_nA f (nI i).toNatClampNeg >>> ((2 : Int32) &&& 31)) = nI (4 * w + f i / 4) := by
  rw [ft_rd h, pk_shrN hf _ 2 (by decide)]
  exact ft_l4 _ _
theorem ft_anA {f : Nat → Nat} {i w : Nat} (h : i < 2147483648) (hf : f i < 2147483648) : (4 : Int32) * nI w + (ft_nA f (nI i).toNatClampNeg &&& 3) = nI (4 * w + f i % 4) := by
  rw [ft_rd h, pk_andN (by omega) 2 (by decide)]
  exact ft_l4 _ _
theorem ft_ifc {α : Type} {c d : Prop} [Decidable c] [Decidable d] {x y : α} (h : c ↔ d) : (if c then x else y) = if d then x else y := by
  by_cases hc : c
  · rw [if_pos hc, if_pos (h.1 hc)]
  · rw [if_neg hc, if_neg (fun hd => hc (h.2 hd))]
end
section
/-! X: newestBefore, isVersion, readsHold, beginCheck, makeReady, beginCarrying, takeTask -/
theorem xw_nb4 {post : Int32 → Prop} {σ : Nat → Nat → Nat} {ρ : Nat → Nat → Int32} {c : Nat} (hc : c < 16) : ∀ t, t ≤ 8 → (ft_nb ((σ 15)) c t = 0 → post (-1)) → (∀ f, f < t → ft_nb ((σ 15)) c t = f + 1 → post (nI f)) → wX_newestBefore_4 post (nI c) (nI (σ 0 0)) (nI (σ 1 0)) (nI (σ 2 0)) (nI (σ 3 0)) (nI (σ 4 0)) (ρ 5 0) (nI (σ 6 0)) (ρ 7 0) (ρ 8) (ft_nA (σ 9)) (ft_nA (σ 10)) (ft_nA (σ 11)) (ρ 12) (ρ 13) (ft_nA (σ 14)) (ft_nA (σ 15)) (ft_nA (σ 16)) (ft_nA (σ 17)) (ft_nA (σ 18)) (ft_nA (σ 19)) (ft_nA (σ 20)) (ft_nB (σ 21)) (ft_nA (σ 22)) (ft_nA (σ 23)) (ft_nA (σ 24)) (ρ 25) (ft_nA (σ 26)) (ft_nA (σ 27)) (ft_nA (σ 28)) (ft_nA (σ 29)) (ρ 30) (ft_nA (σ 31)) (ρ 32) (ft_nA (σ 33)) (t + 1) (nI t - 1) := by
  intro t
  induction t with
  | zero =>
    intro _ h0 _
    exact br_t (by decide) (h0 rfl)
  | succ t ih =>
    intro ht h0 h1
    rw [nI_pred]
    refine br_f (nI_pos (by omega)) (And.intro (ft_in (by omega)) (ek_if (d := ((σ 15) t).testBit c = true) (ft_bitA (by omega) (by omega)) ?_ ?_))
    · intro hb
      exact h1 t (by omega) (by unfold ft_nb; rw [if_pos hb])
    · intro hb
      have e : ft_nb ((σ 15)) c (t + 1) = ft_nb ((σ 15)) c t := by
        rw [show ft_nb ((σ 15)) c (t + 1) = if ((σ 15) t).testBit c = true then t + 1 else ft_nb ((σ 15)) c t from rfl, if_neg hb]
      rw [e] at h0 h1
      refine nm_r (e' := nI t - 1) (Int32.sub_eq_add_neg _ _).symm ?_
      exact ih (by omega) h0 (fun f hf hh => h1 f (by omega) hh)
theorem xw_newestBefore {post : Int32 → Prop} {σ : Nat → Nat → Nat} {ρ : Nat → Nat → Int32} {c t : Nat} (hc : c < 16) (ht : t ≤ 8) (h0 : ft_nb ((σ 15)) c t = 0 → post (-1)) (h1 : ∀ f, f < t → ft_nb ((σ 15)) c t = f + 1 → post (nI f)) : wpX_newestBefore post (ft_cv σ ρ) (nI c) (nI t) := by
  unfold wpX_newestBefore ft_cv
  exact nm_e ⟨t + 1, xw_nb4 hc t ht h0 h1⟩
theorem xw_isVersion {post : Int32 → Prop} {σ : Nat → Nat → Nat} {ρ : Nat → Nat → Int32} {f c x : Nat} (hf : f < 8) (hc : c < 16) (hs : (σ 16) f < 4) (hx : x < 2147483648) (hv : (σ 14) (8 * c + f) < 2147483648) (h1 : (σ 16) f = 2 → (σ 14) (8 * c + f) = x → post 1) (h0 : ¬ ((σ 16) f = 2 ∧ (σ 14) (8 * c + f) = x) → post 0) : wpX_isVersion post (ft_cv σ ρ) (nI f) (nI c) (nI x) := by
  unfold wpX_isVersion ft_cv
  refine And.intro (ft_in hf) (pk_eq ((σ 16) f) 2 ?_ ?_ (ft_rd (by omega)) rfl (by omega) (by omega))
  · intro e2
    refine And.intro (ft_inE (ft_l8 c f) (by omega)) (pk_eq ((σ 14) (8 * c + f)) x (fun e => h1 e2 e) (fun e => h0 (fun hh => e hh.2)) (ft_rdI (ft_l8 c f) (by omega)) rfl (by omega) (by omega))
  · intro e2
    exact h0 (fun hh => e2 hh.1)
/-- entry k of t's log holds now -/
def ft_re (wr st vt rl rf rt : Nat → Nat) (t k : Nat) : Prop := ft_nb wr (rl (12 * t + k)) t = rf (12 * t + k) ∧ ∀ f, rf (12 * t + k) = f + 1 → st f = 2 ∧ vt (8 * rl (12 * t + k) + f) = rt (12 * t + k)
def ft_RH (wr st vt rc rl rf rt : Nat → Nat) (t : Nat) : Prop := ∀ k, k < rc t → ft_re wr st vt rl rf rt t k
def ft_rh (σ : Nat → Nat → Nat) (t : Nat) : Prop := ft_RH ((σ 15)) ((σ 16)) ((σ 14)) ((σ 19)) ((σ 20)) ((σ 21)) ((σ 22)) t
/-- bounds that the walk of readsHold needs -/
def ft_rb (σ : Nat → Nat → Nat) (t : Nat) : Prop := (σ 19) t ≤ 12 ∧ (∀ k, k < (σ 19) t → (σ 20) (12 * t + k) < 16 ∧ (σ 21) (12 * t + k) ≤ 8) ∧ (∀ j, j < 8 → (σ 16) j < 4) ∧ (∀ j, j < 128 → (σ 14) j < 2147483648) ∧ (∀ j, j < 96 → (σ 22) j < 2147483648)
theorem xw_rh2 {post : Int32 → Prop} {σ : Nat → Nat → Nat} {ρ : Nat → Nat → Int32} {t : Nat} (ht : t < 8) (hb : ft_rb σ t) : ∀ d k, k + d = (σ 19) t → (∀ j, j < k → ft_re ((σ 15)) ((σ 16)) ((σ 14)) ((σ 20)) ((σ 21)) ((σ 22)) t j) → (ft_rh σ t → post 1) → (¬ ft_rh σ t → post 0) → wX_readsHold_2 post (nI t) (nI (σ 0 0)) (nI (σ 1 0)) (nI (σ 2 0)) (nI (σ 3 0)) (nI (σ 4 0)) (ρ 5 0) (nI (σ 6 0)) (ρ 7 0) (ρ 8) (ft_nA (σ 9)) (ft_nA (σ 10)) (ft_nA (σ 11)) (ρ 12) (ρ 13) (ft_nA (σ 14)) (ft_nA (σ 15)) (ft_nA (σ 16)) (ft_nA (σ 17)) (ft_nA (σ 18)) (ft_nA (σ 19)) (ft_nA (σ 20)) (ft_nB (σ 21)) (ft_nA (σ 22)) (ft_nA (σ 23)) (ft_nA (σ 24)) (ρ 25) (ft_nA (σ 26)) (ft_nA (σ 27)) (ft_nA (σ 28)) (ft_nA (σ 29)) (ρ 30) (ft_nA (σ 31)) (ρ 32) (ft_nA (σ 33)) (d + 1) (nI k) := by
  obtain ⟨b1, b2, b3, b4, b5⟩ := hb
  intro d
  induction d with
  | zero =>
    intro k hk hj h1 _
    refine And.intro (ft_in ht) (br_t ?_ (h1 (fun j hj' => hj j (by omega))))
    rw [ft_rd (i := t) (by omega)]
    exact nI_le (by omega) (by omega)
  | succ d ih =>
    intro k hk hj h1 h0
    have hk12 : k < (σ 19) t := by omega
    obtain ⟨c1, c2⟩ := b2 k hk12
    have hi : 12 * t + k < 96 := by omega
    refine And.intro (ft_in ht) (br_f ?_ ?_)
    · rw [ft_rd (i := t) (by omega)]
      exact nI_ge (by omega) (by omega)
    · refine nm_r (ft_l12 t k) (And.intro (ft_in hi) ?_)
      show wpX_newestBefore _ (ft_cv σ ρ) _ _
      rw [ft_rd (i := 12 * t + k) (by omega)]
      refine xw_newestBefore c1 (by omega) ?_ ?_
      · intro e0
        refine And.intro (ft_in hi) ?_
        rw [ft_rdB (i := 12 * t + k) (by omega)]
        refine ek_if (d := (σ 21) (12 * t + k) = 0) ?_ ?_ ?_
        · constructor
          · intro e
            have e2 : nI ((σ 21) (12 * t + k)) = nI 0 := by
              have := congrArg (fun z => z + 1) e
              simpa [Int32.sub_add_cancel, nI_0] using this.symm
            exact (nI_eq (by omega) (by omega)).mp e2
          · intro e
            rw [e]; rfl
        · intro e
          refine br_t (by decide) (nm_r (nI_1 k) (ih (k + 1) (by omega) ?_ h1 h0))
          intro j hj'
          by_cases hjk : j = k
          · subst hjk
            exact ⟨by rw [e0, e], fun f hf => by rw [e] at hf; omega⟩
          · exact hj j (by omega)
        · intro e
          refine h0 (fun H => e ?_)
          rw [← (H k hk12).1, e0]
      · intro f hf ef
        refine And.intro (ft_in hi) ?_
        rw [ft_rdB (i := 12 * t + k) (by omega)]
        refine ek_if (d := (σ 21) (12 * t + k) = f + 1) ?_ ?_ ?_
        · constructor
          · intro e
            have e2 : nI ((σ 21) (12 * t + k)) = nI (f + 1) := by
              have := congrArg (fun z => z + 1) e
              simpa [Int32.sub_add_cancel, nI_1] using this.symm
            exact (nI_eq (by omega) (by omega)).mp e2
          · intro e
            rw [e, nI_pred]
        · intro e
          refine br_f (nI_pos (by omega)) (And.intro (ft_in hi) (And.intro (ft_in hi) ?_))
          show wpX_isVersion _ (ft_cv σ ρ) _ _ _
          rw [ft_rd (i := 12 * t + k) (by omega)]
          refine xw_isVersion (by omega) c1 (b3 f (by omega)) (b5 _ hi) (b4 _ (by omega)) ?_ ?_
          · intro e2 e3
            refine br_f (by decide) (nm_r (nI_1 k) (ih (k + 1) (by omega) ?_ h1 h0))
            intro j hj'
            by_cases hjk : j = k
            · subst hjk
              refine ⟨by rw [ef, e], fun f' hf' => ?_⟩
              have : f' = f := by omega
              subst this
              exact ⟨e2, e3⟩
            · exact hj j (by omega)
          · intro e2
            refine br_t rfl (h0 (fun H => e2 ((H k hk12).2 f e)))
        · intro e
          refine h0 (fun H => e ?_)
          rw [← (H k hk12).1, ef]
theorem xw_readsHold {post : Int32 → Prop} {σ : Nat → Nat → Nat} {ρ : Nat → Nat → Int32} {t : Nat} (ht : t < 8) (hb : ft_rb σ t) (h1 : ft_rh σ t → post 1) (h0 : ¬ ft_rh σ t → post 0) : wpX_readsHold post (ft_cv σ ρ) (nI t) := by
  unfold wpX_readsHold ft_cv
  exact ⟨_, xw_rh2 ht hb ((σ 19) t) 0 (by omega) (fun j hj => by omega) h1 h0⟩
def ft_bc (σ : Nat → Nat → Nat) (w t : Nat) : Nat → Nat → Nat := ft_sa (ft_sa (ft_sa σ 26 (ft_un ((σ 26)) w 2)) 27 (ft_un ((σ 27)) w t)) 28 (ft_un ((σ 28)) w ((σ 17) t))
theorem xw_beginCheck {post : SX → Prop} {σ : Nat → Nat → Nat} {ρ : Nat → Nat → Int32} {w t : Nat} (hw : w < 6) (ht : t < 8) (h : post (ft_cv (ft_bc σ w t) ρ)) : wpX_beginCheck post (ft_cv σ ρ) (nI w) (nI t) := by
  unfold wpX_beginCheck ft_cv
  exact And.intro (ft_in hw) (nm_r (ft_wr (v := 2) (by omega)) (And.intro (ft_in hw) (nm_r (ft_wr (by omega)) (And.intro (ft_in ht) (And.intro (ft_in hw) (nm_r (ft_wr (by omega) (ft_rd (by omega))) h))))))
def ft_mr (σ : Nat → Nat → Nat) (t : Nat) : Nat → Nat → Nat := ft_sa (ft_sa (ft_sa σ 16 (ft_un ((σ 16)) t 0)) 17 (ft_un ((σ 17)) t ((σ 17) t + 1))) 3 (fun _ => if (σ 3 0) ≤ t then (σ 3 0) else t)
theorem xw_makeReady {post : SX → Prop} {σ : Nat → Nat → Nat} {ρ : Nat → Nat → Int32} {t : Nat} (ht : t < 8) (hn : (σ 3 0) < 2147483648) (h : post (ft_cv (ft_mr σ t) ρ)) : wpX_makeReady post (ft_cv σ ρ) (nI t) := by
  unfold wpX_makeReady ft_cv
  refine And.intro (ft_in ht) (nm_r (ft_wr (v := 0) (by omega)) (And.intro (ft_in ht) (And.intro (ft_in ht) (nm_r (ft_wr (v := (σ 17) t + 1) (by omega) (ft_rd1 (by omega))) (pk_le ((σ 3 0)) t ?_ ?_)))))
  · intro hl
    have e : ft_mr σ t = ft_sa (ft_sa (ft_sa σ 16 (ft_un ((σ 16)) t 0)) 17 (ft_un ((σ 17)) t ((σ 17) t + 1))) 3 (fun _ => (σ 3 0)) := by
      unfold ft_mr
      rw [if_pos hl]
    rw [e] at h
    exact h
  · intro hl
    have e : ft_mr σ t = ft_sa (ft_sa (ft_sa σ 16 (ft_un ((σ 16)) t 0)) 17 (ft_un ((σ 17)) t ((σ 17) t + 1))) 3 (fun _ => t) := by
      unfold ft_mr
      rw [if_neg (by omega)]
    rw [e] at h
    exact h
/-- zero from a on, for n -/
def ft_zr (R : Nat → Int32) (a b : Nat) : Nat → Int32 := fun j => if a ≤ j ∧ j < b then 0 else R j
theorem xw_bc70 {post : SX → Prop} {σ : Nat → Nat → Nat} {ρ : Nat → Nat → Int32} {w : Nat} (hw : w < 6) : ∀ k r, r + k = 4 → ∀ R : Nat → Int32, post (((nI (σ 0 0)), (nI (σ 1 0)), (nI (σ 2 0)), (nI (σ 3 0)), (nI (σ 4 0)), (ρ 5 0), (nI (σ 6 0)), (ρ 7 0), (ρ 8), (ft_nA (σ 9)), (ft_nA (σ 10)), (ft_nA (σ 11)), (ρ 12), (ρ 13), (ft_nA (σ 14)), (ft_nA (σ 15)), (ft_nA (σ 16)), (ft_nA (σ 17)), (ft_nA (σ 18)), (ft_nA (σ 19)), (ft_nA (σ 20)), (ft_nB (σ 21)), (ft_nA (σ 22)), (ft_nA (σ 23)), (ft_nA (σ 24)), (ρ 25), (ft_nA (σ 26)), (ft_nA (σ 27)), (ft_nA (σ 28)), (ft_nA (σ 29)), (ft_zr R (4 * w + r) (4 * w + 4)), (ft_nA (σ 31)), (ρ 32), (ft_nA (σ 33)))) → wX_beginCarrying_70 post (nI w) (nI (σ 0 0)) (nI (σ 1 0)) (nI (σ 2 0)) (nI (σ 3 0)) (nI (σ 4 0)) (ρ 5 0) (nI (σ 6 0)) (ρ 7 0) (k + 1) (nI r) (ρ 8) (ft_nA (σ 9)) (ft_nA (σ 10)) (ft_nA (σ 11)) (ρ 12) (ρ 13) (ft_nA (σ 14)) (ft_nA (σ 15)) (ft_nA (σ 16)) (ft_nA (σ 17)) (ft_nA (σ 18)) (ft_nA (σ 19)) (ft_nA (σ 20)) (ft_nB (σ 21)) (ft_nA (σ 22)) (ft_nA (σ 23)) (ft_nA (σ 24)) (ρ 25) (ft_nA (σ 26)) (ft_nA (σ 27)) (ft_nA (σ 28)) (ft_nA (σ 29)) (R) (ft_nA (σ 31)) (ρ 32) (ft_nA (σ 33)) := by
  intro k
  induction k with
  | zero =>
    intro r hr R h
    have e : ft_zr R (4 * w + r) (4 * w + 4) = R := by
      funext j
      unfold ft_zr
      rw [if_neg (by omega)]
    rw [e] at h
    exact br_t (nI_le (a := 4) (by omega) (by omega)) h
  | succ k ih =>
    intro r hr R h
    refine br_f (nI_ge (b := 4) (by omega) (by decide)) (And.intro (ft_inE (ft_l4 w r) (by omega)) (nm_r (ft_wRI (ft_l4 w r) (by omega) rfl) (nm_r (nI_1 r) (ih (r + 1) (by omega) _ ?_))))
    have e : ft_zr (upd R (4 * w + r) 0) (4 * w + (r + 1)) (4 * w + 4) = ft_zr R (4 * w + r) (4 * w + 4) := by
      funext j
      unfold ft_zr upd
      by_cases h1 : j = 4 * w + r
      · rw [if_neg (by omega), if_pos h1, if_pos (by omega)]
      · by_cases h2 : 4 * w + r ≤ j ∧ j < 4 * w + 4
        · rw [if_pos h2, if_pos (by omega)]
        · rw [if_neg h2, if_neg (by omega), if_neg h1]
    rw [e]
    exact h
def ft_ca (σ : Nat → Nat → Nat) (w t : Nat) : Nat → Nat → Nat := ft_sa (ft_sa (ft_sa (ft_sa (ft_sa (ft_sa (ft_sa (ft_sa (ft_sa σ 16 (ft_un ((σ 16)) t 1)) 26 (ft_un ((σ 26)) w 1)) 27 (ft_un ((σ 27)) w t)) 28 (ft_un ((σ 28)) w ((σ 17) t))) 29 (ft_un ((σ 29)) w 0)) 31 (ft_un ((σ 31)) w 0)) 33 (ft_un ((σ 33)) w 0)) 19 (ft_un ((σ 19)) t 0)) 24 (ft_un ((σ 24)) t 0)
def ft_car (ρ : Nat → Nat → Int32) (w : Nat) : Nat → Nat → Int32 := ft_ra ρ 30 (ft_zr ((ρ 30)) (4 * w) (4 * w + 4))
theorem xw_beginCarrying {post : SX → Prop} {σ : Nat → Nat → Nat} {ρ : Nat → Nat → Int32} {w t : Nat} (hw : w < 6) (ht : t < 8) (h : post (ft_cv (ft_ca σ w t) (ft_car ρ w))) : wpX_beginCarrying post (ft_cv σ ρ) (nI w) (nI t) := by
  unfold wpX_beginCarrying ft_cv
  refine And.intro (ft_in ht) (nm_r (ft_wr (v := 1) (by omega)) (And.intro (ft_in hw) (nm_r (ft_wr (v := 1) (by omega)) (And.intro (ft_in hw) (nm_r (ft_wr (by omega)) (And.intro (ft_in ht) (And.intro (ft_in hw) (nm_r (ft_wr (by omega) (ft_rd (by omega))) (And.intro (ft_in hw) (nm_r (ft_wr (v := 0) (by omega)) (And.intro (ft_in hw) (nm_r (ft_wr (v := 0) (by omega)) (And.intro (ft_in hw) (nm_r (ft_wr (v := 0) (by omega)) (And.intro (ft_in ht) (nm_r (ft_wr (v := 0) (by omega)) (And.intro (ft_in ht) (nm_r (ft_wr (v := 0) (by omega)) ?_))))))))))))))))))
  exact ⟨5, xw_bc70 (σ := ft_ca σ w t) (ρ := ρ) hw 4 0 rfl ((ρ 30)) h⟩
def ft_sc (σ : Nat → Nat → Nat) (f v : Nat) : Nat → Nat → Nat := ft_sa σ f (fun _ => v)
theorem xw_tt56 {post : SX → Prop} {σ : Nat → Nat → Nat} {ρ : Nat → Nat → Int32} {w : Nat} (hw : w < 6) (hc : (σ 0 0) ≤ 8) (hn : (σ 3 0) ≤ 8) (hs : ∀ j, j < 8 → (σ 16) j < 4)
    (h0 : (σ 0 0) ≤ (σ 3 0) → post (ft_cv σ ρ))
    (h1 : (σ 3 0) < (σ 0 0) → (σ 16) ((σ 3 0)) = 0 → post (ft_cv (ft_ca (ft_sc σ 3 ((σ 3 0) + 1)) w ((σ 3 0))) (ft_car ρ w)))
    (h2 : (σ 3 0) < (σ 0 0) → (σ 16) ((σ 3 0)) ≠ 0 → post (ft_cv (ft_sc σ 3 ((σ 3 0) + 1)) ρ)) : wX_takeTask_56 post (nI w) (nI (σ 0 0)) (nI (σ 1 0)) (nI (σ 2 0)) (nI (σ 3 0)) (nI (σ 4 0)) (ρ 5 0) (nI (σ 6 0)) (ρ 7 0) (ρ 8) (ft_nA (σ 9)) (ft_nA (σ 10)) (ft_nA (σ 11)) (ρ 12) (ρ 13) (ft_nA (σ 14)) (ft_nA (σ 15)) (ft_nA (σ 16)) (ft_nA (σ 17)) (ft_nA (σ 18)) (ft_nA (σ 19)) (ft_nA (σ 20)) (ft_nB (σ 21)) (ft_nA (σ 22)) (ft_nA (σ 23)) (ft_nA (σ 24)) (ρ 25) (ft_nA (σ 26)) (ft_nA (σ 27)) (ft_nA (σ 28)) (ft_nA (σ 29)) (ρ 30) (ft_nA (σ 31)) (ρ 32) (ft_nA (σ 33)) := by
  unfold wX_takeTask_56
  refine pk_le ((σ 0 0)) ((σ 3 0)) (fun h => h0 h) (fun h => nm_r (nI_1 _) (And.intro (ft_in (by omega)) (pk_eq ((σ 16) ((σ 3 0))) 0 (fun e => ?_) (fun e => h2 h e) (ft_rd (by omega)) rfl (by have := hs ((σ 3 0)) (by omega); omega) (by omega))))
  exact xw_beginCarrying (σ := ft_sc σ 3 ((σ 3 0) + 1)) hw (by omega) (h1 h e)
theorem xw_takeTask {post : SX → Prop} {σ : Nat → Nat → Nat} {ρ : Nat → Nat → Int32} {w : Nat} (hw : w < 6) (hc : (σ 0 0) ≤ 8) (hn : (σ 3 0) ≤ 8) (hk : (σ 4 0) ≤ 8) (hs : ∀ j, j < 8 → (σ 16) j < 4)
    (h0 : ¬ ((σ 4 0) < (σ 3 0) ∧ (σ 4 0) < (σ 0 0)) → (σ 0 0) ≤ (σ 3 0) → post (ft_cv σ ρ))
    (h1 : ¬ ((σ 4 0) < (σ 3 0) ∧ (σ 4 0) < (σ 0 0)) → (σ 3 0) < (σ 0 0) → (σ 16) ((σ 3 0)) = 0 → post (ft_cv (ft_ca (ft_sc σ 3 ((σ 3 0) + 1)) w ((σ 3 0))) (ft_car ρ w)))
    (h2 : ¬ ((σ 4 0) < (σ 3 0) ∧ (σ 4 0) < (σ 0 0)) → (σ 3 0) < (σ 0 0) → (σ 16) ((σ 3 0)) ≠ 0 → post (ft_cv (ft_sc σ 3 ((σ 3 0) + 1)) ρ))
    (h3 : (σ 4 0) < (σ 3 0) → (σ 4 0) < (σ 0 0) → (σ 16) ((σ 4 0)) = 2 → post (ft_cv (ft_bc (ft_sc σ 4 ((σ 4 0) + 1)) w ((σ 4 0))) ρ))
    (h4 : (σ 4 0) < (σ 3 0) → (σ 4 0) < (σ 0 0) → (σ 16) ((σ 4 0)) ≠ 2 → post (ft_cv (ft_sc σ 4 ((σ 4 0) + 1)) ρ)) : wpX_takeTask post (ft_cv σ ρ) (nI w) := by
  unfold wpX_takeTask ft_cv
  refine pk_le ((σ 3 0)) ((σ 4 0)) (fun h => ?_) (fun h => pk_le ((σ 0 0)) ((σ 4 0)) (fun h' => ?_) (fun h' => nm_r (nI_1 _) (And.intro (ft_in (by omega)) (pk_eq ((σ 16) ((σ 4 0))) 2 (fun e => ?_) (fun e => h4 h h' e) (ft_rd (by omega)) rfl (by have := hs ((σ 4 0)) (by omega); omega) (by omega)))))
  · exact xw_tt56 hw hc hn hs (h0 (by omega)) (h1 (by omega)) (h2 (by omega))
  · exact xw_tt56 hw hc hn hs (h0 (by omega)) (h1 (by omega)) (h2 (by omega))
  · exact xw_beginCheck (σ := ft_sc σ 4 ((σ 4 0) + 1)) hw (by omega) (h3 h h' e)
end
section
/-! X: applyStores, finish, checkNow -/
def ft_vv (vv sv : Nat → Int32) (w t z c : Nat) : Nat → Int32 := fun j => if j % 8 = t ∧ j / 8 < c ∧ z.testBit (j / 8) = true then sv (16 * w + j / 8) else vv j
def ft_vt (vt : Nat → Nat) (tn t z c : Nat) : Nat → Nat := fun j => if j % 8 = t ∧ j / 8 < c ∧ z.testBit (j / 8) = true then tn else vt j
theorem ft_vv0 (vv sv : Nat → Int32) (w t z : Nat) : ft_vv vv sv w t z 0 = vv := by
  funext j
  unfold ft_vv
  rw [if_neg (by omega)]
theorem ft_vt0 (vt : Nat → Nat) (tn t z : Nat) : ft_vt vt tn t z 0 = vt := by
  funext j
  unfold ft_vt
  rw [if_neg (by omega)]
theorem ft_vvS {vv sv : Nat → Int32} {w t z c : Nat} (ht : t < 8) (hb : z.testBit c = true) : upd (ft_vv vv sv w t z c) (8 * c + t) (sv (16 * w + c)) = ft_vv vv sv w t z (c + 1) := by
  funext j
  by_cases h1 : j = 8 * c + t
  · subst h1
    have e1 : (8 * c + t) / 8 = c := by omega
    rw [pk_us]
    unfold ft_vv
    rw [e1, if_pos ⟨by omega, by omega, hb⟩]
  · rw [pk_un h1]
    unfold ft_vv
    refine ft_ifc ⟨fun h => ⟨h.1, by omega, h.2.2⟩, fun h => ⟨h.1, by omega, h.2.2⟩⟩
theorem ft_vvN {vv sv : Nat → Int32} {w t z c : Nat} (hb : ¬ z.testBit c = true) : ft_vv vv sv w t z c = ft_vv vv sv w t z (c + 1) := by
  funext j
  unfold ft_vv
  refine ft_ifc ⟨fun h => ⟨h.1, by omega, h.2.2⟩, fun h => ⟨h.1, ?_, h.2.2⟩⟩
  have h3 : j / 8 ≠ c := fun e => hb (e ▸ h.2.2)
  omega
theorem ft_vtS {vt : Nat → Nat} {tn t z c : Nat} (ht : t < 8) (hb : z.testBit c = true) : ft_un (ft_vt vt tn t z c) (8 * c + t) tn = ft_vt vt tn t z (c + 1) := by
  funext j
  by_cases h1 : j = 8 * c + t
  · subst h1
    have e1 : (8 * c + t) / 8 = c := by omega
    rw [ft_unS]
    unfold ft_vt
    rw [e1, if_pos ⟨by omega, by omega, hb⟩]
  · rw [ft_unN h1]
    unfold ft_vt
    refine ft_ifc ⟨fun h => ⟨h.1, by omega, h.2.2⟩, fun h => ⟨h.1, by omega, h.2.2⟩⟩
theorem ft_vtN {vt : Nat → Nat} {tn t z c : Nat} (hb : ¬ z.testBit c = true) : ft_vt vt tn t z c = ft_vt vt tn t z (c + 1) := by
  funext j
  unfold ft_vt
  refine ft_ifc ⟨fun h => ⟨h.1, by omega, h.2.2⟩, fun h => ⟨h.1, ?_, h.2.2⟩⟩
  have h3 : j / 8 ≠ c := fun e => hb (e ▸ h.2.2)
  omega
def ft_ap (σ : Nat → Nat → Nat) (t z : Nat) : Nat → Nat → Nat := ft_sa (ft_sa σ 14 (ft_vt ((σ 14)) ((σ 17) t) t z 16)) 15 (ft_un ((σ 15)) t z)
def ft_apr (ρ : Nat → Nat → Int32) (w t z : Nat) : Nat → Nat → Int32 := ft_ra ρ 13 (ft_vv ((ρ 13)) ((ρ 32)) w t z 16)
theorem xw_as43 {post : Int32 → SX → Prop} {σ : Nat → Nat → Nat} {ρ : Nat → Nat → Int32} {w t z : Nat} {x4 : Int32} (hw : w < 6) (ht : t < 8) (hx : narrow .boolean (.int x4) = .int x4) (h : post x4 (ft_cv (ft_ap σ t z) (ft_apr ρ w t z))) : ∀ k c, c + k = 16 → ∀ (A : Nat → Int32) (B : Nat → Nat), A = ft_vv ((ρ 13)) ((ρ 32)) w t z c → B = ft_vt ((σ 14)) ((σ 17) t) t z c → wX_applyStores_43 post (nI w) (nI t) (nI z) x4 (nI (σ 0 0)) (nI (σ 1 0)) (nI (σ 2 0)) (nI (σ 3 0)) (nI (σ 4 0)) (ρ 5 0) (nI (σ 6 0)) (ρ 7 0) (k + 1) (nI c) (ρ 8) (ft_nA (σ 9)) (ft_nA (σ 10)) (ft_nA (σ 11)) (ρ 12) (A) (ft_nA B) (ft_nA (σ 15)) (ft_nA (σ 16)) (ft_nA (σ 17)) (ft_nA (σ 18)) (ft_nA (σ 19)) (ft_nA (σ 20)) (ft_nB (σ 21)) (ft_nA (σ 22)) (ft_nA (σ 23)) (ft_nA (σ 24)) (ρ 25) (ft_nA (σ 26)) (ft_nA (σ 27)) (ft_nA (σ 28)) (ft_nA (σ 29)) (ρ 30) (ft_nA (σ 31)) (ρ 32) (ft_nA (σ 33)) := by
  intro k
  induction k with
  | zero =>
    intro c hc A B eA eB
    have e : c = 16 := by omega
    subst e eA eB
    exact br_t (nI_le (a := 16) (by omega) (by omega)) (And.intro (ft_in ht) (nm_r (ft_wr (by omega)) (And.intro hx h)))
  | succ k ih =>
    intro c hc A B eA eB
    refine br_f (nI_ge (b := 16) (by omega) (by decide)) (ek_if (d := z.testBit c = true) (ft_bit (by omega)) ?_ ?_)
    · intro hb
      refine And.intro (ft_inE (ft_l16 w c) (by omega)) (And.intro (ft_inE (ft_l8 c t) (by omega)) (nm_r (ft_wRI (ft_l8 c t) (by omega) (ft_rRI (ft_l16 w c) (by omega))) (And.intro (ft_in ht) (And.intro (ft_inE (ft_l8 c t) (by omega)) (nm_r (ft_wrI (ft_l8 c t) (by omega) (ft_rd (by omega))) (nm_r (nI_1 c) (ih (c + 1) (by omega) _ _ ?_ ?_)))))))
      · rw [eA]; exact ft_vvS ht hb
      · rw [eB]; exact ft_vtS ht hb
    · intro hb
      refine nm_r (nI_1 c) (ih (c + 1) (by omega) _ _ ?_ ?_)
      · rw [eA]; exact ft_vvN hb
      · rw [eB]; exact ft_vtN hb
/-- the cells of z are all among m's -/
def ft_le (z m : Nat) : Prop := ∀ c, c < 16 → z.testBit c = true → m.testBit c = true
theorem xw_as19 {post : Int32 → SX → Prop} {σ : Nat → Nat → Nat} {ρ : Nat → Nat → Int32} {w t z : Nat} (hw : w < 6) (ht : t < 8) (hz : z < 65536)
    (h0 : ft_le z ((σ 15) t) → post 0 (ft_cv (ft_ap σ t z) (ft_apr ρ w t z)))
    (h1 : ¬ ft_le z ((σ 15) t) → post 1 (ft_cv (ft_ap σ t z) (ft_apr ρ w t z))) : wX_applyStores_19 post (nI w) (nI t) (nI z) (nI (σ 0 0)) (nI (σ 1 0)) (nI (σ 2 0)) (nI (σ 3 0)) (nI (σ 4 0)) (ρ 5 0) (nI (σ 6 0)) (ρ 7 0) (ρ 8) (ft_nA (σ 9)) (ft_nA (σ 10)) (ft_nA (σ 11)) (ρ 12) (ρ 13) (ft_nA (σ 14)) (ft_nA (σ 15)) (ft_nA (σ 16)) (ft_nA (σ 17)) (ft_nA (σ 18)) (ft_nA (σ 19)) (ft_nA (σ 20)) (ft_nB (σ 21)) (ft_nA (σ 22)) (ft_nA (σ 23)) (ft_nA (σ 24)) (ρ 25) (ft_nA (σ 26)) (ft_nA (σ 27)) (ft_nA (σ 28)) (ft_nA (σ 29)) (ρ 30) (ft_nA (σ 31)) (ρ 32) (ft_nA (σ 33)) := by
  unfold wX_applyStores_19
  refine And.intro (ft_in ht) (ek_if (d := ft_le z ((σ 15) t)) ?_ ?_ ?_)
  · rw [ft_rd (i := t) (by omega)]
    exact ft_sub hz
  · intro hb
    exact ⟨17, xw_as43 hw ht narrow_b0 (h0 hb) 16 0 rfl _ _ (ft_vv0 _ _ _ _ _).symm (ft_vt0 _ _ _ _).symm⟩
  · intro hb
    exact ⟨17, xw_as43 hw ht narrow_b1 (h1 hb) 16 0 rfl _ _ (ft_vv0 _ _ _ _ _).symm (ft_vt0 _ _ _ _).symm⟩
def ft_zs (σ : Nat → Nat → Nat) (w : Nat) : Nat := if (σ 33) w = 0 then (σ 31) w else 0
theorem xw_applyStores {post : Int32 → SX → Prop} {σ : Nat → Nat → Nat} {ρ : Nat → Nat → Int32} {w t : Nat} (hw : w < 6) (ht : t < 8) (hf : (σ 33) w ≤ 1) (hz : (σ 31) w < 65536)
    (h0 : ft_le (ft_zs σ w) ((σ 15) t) → post 0 (ft_cv (ft_ap σ t (ft_zs σ w)) (ft_apr ρ w t (ft_zs σ w))))
    (h1 : ¬ ft_le (ft_zs σ w) ((σ 15) t) → post 1 (ft_cv (ft_ap σ t (ft_zs σ w)) (ft_apr ρ w t (ft_zs σ w)))) : wpX_applyStores post (ft_cv σ ρ) (nI w) (nI t) := by
  unfold wpX_applyStores ft_cv
  refine And.intro (ft_in hw) (pk_eq ((σ 33) w) 0 (fun e => ?_) (fun e => ?_) (ft_rd (by omega)) rfl (by omega) (by omega))
  · refine And.intro (ft_in hw) ?_
    have ez : ft_zs σ w = (σ 31) w := if_pos e
    rw [ez] at h0 h1
    rw [ft_rd (i := w) (by omega)]
    exact xw_as19 hw ht hz h0 h1
  · have ez : ft_zs σ w = 0 := if_neg e
    rw [ez] at h0 h1
    exact xw_as19 (z := 0) hw ht (by decide) h0 h1
/-! finish -/
def ft_w0 (f : Nat → Nat) (m d : Nat) : Nat → Nat := fun j => if j < d ∧ m.testBit j = true then 0 else f j
def ft_w1 (f : Nat → Nat) (m d : Nat) : Nat → Nat := fun j => if j < d ∧ m.testBit j = true then f j + 1 else f j
def ft_nm (m n : Nat) : Nat → Nat
  | 0 => n
  | d + 1 => if m.testBit d = true then (if ft_nm m n d ≤ d then ft_nm m n d else d) else ft_nm m n d
theorem ft_w0z (f : Nat → Nat) (m : Nat) : ft_w0 f m 0 = f := by
  funext j
  unfold ft_w0
  rw [if_neg (by omega)]
theorem ft_w1z (f : Nat → Nat) (m : Nat) : ft_w1 f m 0 = f := by
  funext j
  unfold ft_w1
  rw [if_neg (by omega)]
theorem ft_w0S {f : Nat → Nat} {m d : Nat} (hb : m.testBit d = true) : ft_un (ft_w0 f m d) d 0 = ft_w0 f m (d + 1) := by
  funext j
  by_cases h1 : j = d
  · subst h1
    rw [ft_unS]
    unfold ft_w0
    rw [if_pos ⟨by omega, hb⟩]
  · rw [ft_unN h1]
    unfold ft_w0
    refine ft_ifc ⟨fun h => ⟨by omega, h.2⟩, fun h => ⟨by omega, h.2⟩⟩
theorem ft_w0N {f : Nat → Nat} {m d : Nat} (hb : ¬ m.testBit d = true) : ft_w0 f m d = ft_w0 f m (d + 1) := by
  funext j
  unfold ft_w0
  refine ft_ifc ⟨fun h => ⟨by omega, h.2⟩, fun h => ⟨?_, h.2⟩⟩
  have h3 : j ≠ d := fun e => hb (e ▸ h.2)
  omega
theorem ft_w1S {f : Nat → Nat} {m d : Nat} (hb : m.testBit d = true) : ft_un (ft_w1 f m d) d (ft_w1 f m d d + 1) = ft_w1 f m (d + 1) := by
  funext j
  by_cases h1 : j = d
  · subst h1
    rw [ft_unS]
    unfold ft_w1
    rw [if_neg (by omega), if_pos ⟨by omega, hb⟩]
  · rw [ft_unN h1]
    unfold ft_w1
    refine ft_ifc ⟨fun h => ⟨by omega, h.2⟩, fun h => ⟨by omega, h.2⟩⟩
theorem ft_w1N {f : Nat → Nat} {m d : Nat} (hb : ¬ m.testBit d = true) : ft_w1 f m d = ft_w1 f m (d + 1) := by
  funext j
  unfold ft_w1
  refine ft_ifc ⟨fun h => ⟨by omega, h.2⟩, fun h => ⟨?_, h.2⟩⟩
  have h3 : j ≠ d := fun e => hb (e ▸ h.2)
  omega
theorem ft_nmL (m n : Nat) : ∀ d, ft_nm m n d ≤ n := by
  intro d
  induction d with
  | zero => exact Nat.le_refl _
  | succ d ih =>
    unfold ft_nm
    split
    · split <;> omega
    · exact ih
/-- behind the loop over the waiting ones -/
def ft_f4 (σ : Nat → Nat → Nat) (w t : Nat) : Nat → Nat → Nat := ft_sa (ft_sa (ft_sa (ft_sa (ft_sa σ 16 (ft_w0 ((σ 16)) ((σ 18) t) 8)) 17 (ft_w1 ((σ 17)) ((σ 18) t) 8)) 3 (fun _ => ft_nm ((σ 18) t) ((σ 3 0)) 8)) 18 (ft_un ((σ 18)) t 0)) 26 (ft_un ((σ 26)) w 0)
theorem xw_f36 {post : SX → Prop} {σ : Nat → Nat → Nat} {ρ : Nat → Nat → Int32} {w t : Nat} {x3 : Int32} (hw : w < 6) (ht : t < 8) (hn : (σ 3 0) ≤ 8) (hk : (σ 4 0) ≤ 8)
    (h0 : (σ 4 0) ≤ t → post (ft_cv (ft_f4 σ w t) ρ))
    (h1 : t < (σ 4 0) → x3 = 0 → post (ft_cv (ft_bc (ft_f4 σ w t) w t) ρ))
    (h2 : t < (σ 4 0) → ¬ x3 = 0 → post (ft_cv (ft_sc (ft_f4 σ w t) 4 t) ρ)) : ∀ k d, d + k = 8 → ∀ (N : Nat) (A B : Nat → Nat), N = ft_nm ((σ 18) t) ((σ 3 0)) d → A = ft_w0 ((σ 16)) ((σ 18) t) d → B = ft_w1 ((σ 17)) ((σ 18) t) d → wX_finish_36 post (nI w) (nI t) x3 (k + 1) (nI d) (nI (σ 0 0)) (nI (σ 1 0)) (nI (σ 2 0)) (nI N) (nI (σ 4 0)) (ρ 5 0) (nI (σ 6 0)) (ρ 7 0) (ρ 8) (ft_nA (σ 9)) (ft_nA (σ 10)) (ft_nA (σ 11)) (ρ 12) (ρ 13) (ft_nA (σ 14)) (ft_nA (σ 15)) (ft_nA A) (ft_nA B) (ft_nA (σ 18)) (ft_nA (σ 19)) (ft_nA (σ 20)) (ft_nB (σ 21)) (ft_nA (σ 22)) (ft_nA (σ 23)) (ft_nA (σ 24)) (ρ 25) (ft_nA (σ 26)) (ft_nA (σ 27)) (ft_nA (σ 28)) (ft_nA (σ 29)) (ρ 30) (ft_nA (σ 31)) (ρ 32) (ft_nA (σ 33)) := by
  intro k
  induction k with
  | zero =>
    intro d hd N A B eN eA eB
    have e : d = 8 := by omega
    subst e eN eA eB
    refine br_t (nI_le (a := 8) (by omega) (by omega)) (And.intro (ft_in ht) (nm_r (ft_wr (v := 0) (by omega)) (And.intro (ft_in hw) (nm_r (ft_wr (v := 0) (by omega)) (pk_le ((σ 4 0)) t (fun hl => ?_) (fun hl => br_c (fun e => ?_) (fun e => h2 hl e)))))))
    · exact br_t (nI_le hl (by omega)) (h0 hl)
    · exact br_f (nI_ge hl (by omega)) (xw_beginCheck (σ := ft_f4 σ w t) hw ht (h1 hl e))
  | succ k ih =>
    intro d hd N A B eN eA eB
    refine br_f (nI_ge (b := 8) (by omega) (by decide)) (And.intro (ft_in ht) (ek_if (d := ((σ 18) t).testBit d = true) (ft_bitA (by omega) (by omega)) ?_ ?_))
    · intro hb
      have hN : N ≤ 8 := by
        have := ft_nmL ((σ 18) t) ((σ 3 0)) d
        omega
      refine xw_makeReady (σ := ft_sa (ft_sa (ft_sa σ 16 A) 17 B) 3 (fun _ => N)) (ρ := ρ) (t := d) (by omega) (show N < 2147483648 by omega) ?_
      refine nm_r (nI_1 d) (ih (d + 1) (by omega) _ _ _ ?_ ?_ ?_)
      · show (if N ≤ d then N else d) = _
        rw [eN]
        exact (if_pos hb).symm
      · show ft_un A d 0 = _
        rw [eA]; exact ft_w0S hb
      · show ft_un B d (B d + 1) = _
        rw [eB]; exact ft_w1S hb
    · intro hb
      refine nm_r (nI_1 d) (ih (d + 1) (by omega) _ _ _ ?_ ?_ ?_)
      · rw [eN]; exact (if_neg hb).symm
      · rw [eA]; exact ft_w0N hb
      · rw [eB]; exact ft_w1N hb
theorem ft_nar {v : Nat} (h : v ≤ 1) : vp_nar .boolean (nI v) = nI v := by
  have h2 : v = 0 ∨ v = 1 := by omega
  rcases h2 with rfl | rfl <;> rfl
/-- the state behind finish, but for the check that it may begin -/
def ft_fi (σ : Nat → Nat → Nat) (w t : Nat) : Nat → Nat → Nat := ft_f4 (ft_sa (ft_sa (ft_ap σ t (ft_zs σ w)) 23 (ft_un ((σ 23)) t ((σ 33) w))) 16 (ft_un ((σ 16)) t 2)) w t
theorem xw_finish {post : SX → Prop} {σ : Nat → Nat → Nat} {ρ : Nat → Nat → Int32} {w t : Nat} (hw : w < 6) (ht : t < 8) (et : (σ 27) w = t) (hf : (σ 33) w ≤ 1) (hz : (σ 31) w < 65536) (hn : (σ 3 0) ≤ 8) (hk : (σ 4 0) ≤ 8)
    (h0 : (σ 4 0) ≤ t → post (ft_cv (ft_fi σ w t) (ft_apr ρ w t (ft_zs σ w))))
    (h1 : t < (σ 4 0) → ft_le (ft_zs σ w) ((σ 15) t) → post (ft_cv (ft_bc (ft_fi σ w t) w t) (ft_apr ρ w t (ft_zs σ w))))
    (h2 : t < (σ 4 0) → ¬ ft_le (ft_zs σ w) ((σ 15) t) → post (ft_cv (ft_sc (ft_fi σ w t) 4 t) (ft_apr ρ w t (ft_zs σ w)))) : wpX_finish post (ft_cv σ ρ) (nI w) := by
  unfold wpX_finish ft_cv
  refine And.intro (ft_in hw) (nm_r ((ft_rd (by omega)).trans (congrArg nI et)) (xw_applyStores hw ht hf hz (fun hl => ?_) (fun hl => ?_)))
  · refine And.intro (ft_in hw) (And.intro (ft_in ht) (nm_r (ft_wr (v := (σ 33) w) (by omega) ?_) (And.intro (ft_in ht) (nm_r (ft_wr (v := 2) (by omega)) ⟨9, ?_⟩))))
    · rw [← ft_nar hf]
      exact congrArg _ (ft_rd (by omega))
    · exact xw_f36 (σ := ft_sa (ft_sa (ft_ap σ t (ft_zs σ w)) 23 (ft_un ((σ 23)) t ((σ 33) w))) 16 (ft_un ((σ 16)) t 2)) (ρ := ft_apr ρ w t (ft_zs σ w)) hw ht hn hk h0 (fun a _ => h1 a hl) (fun a b => absurd rfl b) 8 0 rfl _ _ _ rfl (ft_w0z _ _).symm (ft_w1z _ _).symm
  · refine And.intro (ft_in hw) (And.intro (ft_in ht) (nm_r (ft_wr (v := (σ 33) w) (by omega) ?_) (And.intro (ft_in ht) (nm_r (ft_wr (v := 2) (by omega)) ⟨9, ?_⟩))))
    · rw [← ft_nar hf]
      exact congrArg _ (ft_rd (by omega))
    · exact xw_f36 (σ := ft_sa (ft_sa (ft_ap σ t (ft_zs σ w)) 23 (ft_un ((σ 23)) t ((σ 33) w))) 16 (ft_un ((σ 16)) t 2)) (ρ := ft_apr ρ w t (ft_zs σ w)) hw ht hn hk h0 (fun a b => absurd b (by decide)) (fun a _ => h2 a hl) 8 0 rfl _ _ _ rfl (ft_w0z _ _).symm (ft_w1z _ _).symm
/-! checkNow -/
def ft_id (σ : Nat → Nat → Nat) (w : Nat) : Nat → Nat → Nat := ft_sa σ 26 (ft_un ((σ 26)) w 0)
def ft_ab (σ : Nat → Nat → Nat) (w t : Nat) : Nat → Nat → Nat := ft_sc (ft_mr (ft_id σ w) t) 4 (if (σ 4 0) ≤ t + 1 then (σ 4 0) else t + 1)
theorem xw_checkNow {post : SX → Prop} {σ : Nat → Nat → Nat} {ρ : Nat → Nat → Int32} {w t : Nat} (hw : w < 6) (ht : t < 8) (et : (σ 27) w = t) (hn : (σ 3 0) ≤ 8) (hk : (σ 4 0) ≤ 8) (hb : ft_rb σ t) (hu : (σ 17) t < 2147483648) (hv : (σ 28) w < 2147483648)
    (h0 : (σ 16) t = 2 → (σ 17) t = (σ 28) w → ¬ ft_rh σ t → post (ft_cv (ft_ab σ w t) ρ))
    (h1 : (σ 16) t = 2 → (σ 17) t = (σ 28) w → ft_rh σ t → post (ft_cv (ft_id σ w) ρ))
    (h2 : ¬ ((σ 16) t = 2 ∧ (σ 17) t = (σ 28) w) → post (ft_cv (ft_id σ w) ρ)) : wpX_checkNow post (ft_cv σ ρ) (nI w) := by
  unfold wpX_checkNow ft_cv
  have hs4 := hb.2.2.1 t ht
  refine And.intro (ft_in hw) (nm_r ((ft_rd (by omega)).trans (congrArg nI et)) (And.intro (ft_in hw) (nm_r (ft_wr (v := 0) (by omega)) (And.intro (ft_in ht) (pk_eq ((σ 16) t) 2 (fun e => And.intro (ft_in ht) (And.intro (ft_in hw) (pk_eq ((σ 17) t) ((σ 28) w) (fun e2 => ?_) (fun e2 => h2 (fun hh => e2 hh.2)) (ft_rd (by omega)) (ft_rd (by omega)) hu hv))) (fun e => h2 (fun hh => e hh.1)) (ft_rd (by omega)) rfl (by omega) (by omega))))))
  refine xw_readsHold (σ := ft_id σ w) (ρ := ρ) ht hb (fun hr => br_f (by decide) (h1 e e2 hr)) (fun hr => br_t rfl ?_)
  refine xw_makeReady (σ := ft_id σ w) (ρ := ρ) ht (show (σ 3 0) < 2147483648 by omega) ?_
  have h0' := h0 e e2 hr
  refine pk_le ((σ 4 0)) (t + 1) (fun hl => ?_) (fun hl => nm_r (nI_1 t) ?_) rfl (nI_1 t)
  · unfold ft_ab at h0'
    rw [if_pos hl] at h0'
    exact h0'
  · unfold ft_ab at h0'
    rw [if_neg (by omega)] at h0'
    exact h0'
end
section
/-! X: readInto, storeFrom, compute, steer, carryOn -/
def ft_lg (σ : Nat → Nat → Nat) (t c fr tn : Nat) : Nat → Nat → Nat := ft_sa (ft_sa (ft_sa (ft_sa σ 20 (ft_un ((σ 20)) (12 * t + (σ 19) t) c)) 21 (ft_un ((σ 21)) (12 * t + (σ 19) t) fr)) 22 (ft_un ((σ 22)) (12 * t + (σ 19) t) tn)) 19 (ft_un ((σ 19)) t ((σ 19) t + 1))
def ft_wa (σ : Nat → Nat → Nat) (w t f : Nat) : Nat → Nat → Nat := ft_sa (ft_sa (ft_sa σ 18 (ft_un ((σ 18)) f ((σ 18) f ||| 2 ^ t))) 16 (ft_un ((σ 16)) t 3)) 26 (ft_un ((σ 26)) w 0)
theorem xw_ri97s {post : Int32 → SX → Prop} {σ : Nat → Nat → Nat} {ρ : Nat → Nat → Int32} {c r t : Nat} (hc : c < 16) (hr : r < 24) (ht : t < 8) (hk : (σ 19) t ≤ 11) (h : post 1 (ft_cv (ft_lg σ t c 0 0) (ft_ra ρ 30 (upd ((ρ 30)) r ((ρ 8) c))))) : wX_readInto_97 post (nI c) (nI r) (nI t) (-1) (nI (σ 0 0)) (nI (σ 1 0)) (nI (σ 2 0)) (nI (σ 3 0)) (nI (σ 4 0)) (ρ 5 0) (nI (σ 6 0)) (ρ 7 0) (ρ 8) (ft_nA (σ 9)) (ft_nA (σ 10)) (ft_nA (σ 11)) (ρ 12) (ρ 13) (ft_nA (σ 14)) (ft_nA (σ 15)) (ft_nA (σ 16)) (ft_nA (σ 17)) (ft_nA (σ 18)) (ft_nA (σ 19)) (ft_nA (σ 20)) (ft_nB (σ 21)) (ft_nA (σ 22)) (ft_nA (σ 23)) (ft_nA (σ 24)) (ρ 25) (ft_nA (σ 26)) (ft_nA (σ 27)) (ft_nA (σ 28)) (ft_nA (σ 29)) (ρ 30) (ft_nA (σ 31)) (ρ 32) (ft_nA (σ 33)) := by
  unfold wX_readInto_97
  refine And.intro (ft_in ht) (nm_r (e' := nI (12 * t + (σ 19) t)) (ft_l12A (by omega)) (And.intro (ft_in (by omega)) (nm_r (ft_wr (by omega)) (And.intro (ft_in (by omega)) (nm_r (ft_wrB (v := 0) (by omega) (by decide)) (br_f (by decide) ?_))))))
  unfold wX_readInto_155
  exact And.intro (ft_in (by omega)) (nm_r (ft_wr (v := 0) (by omega)) (And.intro (ft_in ht) (And.intro (ft_in ht) (nm_r (ft_wr (v := (σ 19) t + 1) (by omega) (ft_rd1 (by omega))) (br_f (by decide) (And.intro (ft_in hc) (And.intro (ft_in hr) (nm_r (ft_wR (by omega) (ft_rR (by omega))) h))))))))
theorem xw_ri97v {post : Int32 → SX → Prop} {σ : Nat → Nat → Nat} {ρ : Nat → Nat → Int32} {c r t f : Nat} (hc : c < 16) (hr : r < 24) (ht : t < 8) (hf : f < 8) (hk : (σ 19) t ≤ 11) (h : post 1 (ft_cv (ft_lg σ t c (f + 1) ((σ 14) (8 * c + f))) (ft_ra ρ 30 (upd ((ρ 30)) r ((ρ 13) (8 * c + f)))))) : wX_readInto_97 post (nI c) (nI r) (nI t) (nI f) (nI (σ 0 0)) (nI (σ 1 0)) (nI (σ 2 0)) (nI (σ 3 0)) (nI (σ 4 0)) (ρ 5 0) (nI (σ 6 0)) (ρ 7 0) (ρ 8) (ft_nA (σ 9)) (ft_nA (σ 10)) (ft_nA (σ 11)) (ρ 12) (ρ 13) (ft_nA (σ 14)) (ft_nA (σ 15)) (ft_nA (σ 16)) (ft_nA (σ 17)) (ft_nA (σ 18)) (ft_nA (σ 19)) (ft_nA (σ 20)) (ft_nB (σ 21)) (ft_nA (σ 22)) (ft_nA (σ 23)) (ft_nA (σ 24)) (ρ 25) (ft_nA (σ 26)) (ft_nA (σ 27)) (ft_nA (σ 28)) (ft_nA (σ 29)) (ρ 30) (ft_nA (σ 31)) (ρ 32) (ft_nA (σ 33)) := by
  unfold wX_readInto_97
  refine And.intro (ft_in ht) (nm_r (e' := nI (12 * t + (σ 19) t)) (ft_l12A (by omega)) (And.intro (ft_in (by omega)) (nm_r (ft_wr (by omega)) (And.intro (ft_in (by omega)) (nm_r (ft_wrB (v := f + 1) (by omega) (nI_pred f).symm) (br_t (nI_pos' (by omega)) (And.intro (ft_inE (ft_l8 c f) (by omega)) ?_)))))))
  rw [ft_rdI (ft_l8 c f) (by omega)]
  unfold wX_readInto_155
  exact And.intro (ft_in (by omega)) (nm_r (ft_wr (by omega)) (And.intro (ft_in ht) (And.intro (ft_in ht) (nm_r (ft_wr (v := (σ 19) t + 1) (by omega) (ft_rd1 (by omega))) (br_t (nI_pos' (by omega)) (And.intro (ft_inE (ft_l8 c f) (by omega)) (And.intro (ft_in hr) (nm_r (ft_wR (by omega) (ft_rRI (ft_l8 c f) (by omega))) h))))))))
theorem xw_readInto {post : Int32 → SX → Prop} {σ : Nat → Nat → Nat} {ρ : Nat → Nat → Int32} {w c r t : Nat} (hw : w < 6) (hc : c < 16) (hr : r < 24) (ht : t < 8) (et : (σ 27) w = t) (hk : (σ 19) t ≤ 11) (hs : ∀ j, j < 8 → (σ 16) j < 4)
    (ho : ((σ 31) w).testBit c = true → post 1 (ft_cv σ (ft_ra ρ 30 (upd ((ρ 30)) r ((ρ 32) (16 * w + c))))))
    (h0 : ¬ ((σ 31) w).testBit c = true → ft_nb ((σ 15)) c t = 0 → post 1 (ft_cv (ft_lg σ t c 0 0) (ft_ra ρ 30 (upd ((ρ 30)) r ((ρ 8) c)))))
    (h1 : ¬ ((σ 31) w).testBit c = true → ∀ f, f < t → ft_nb ((σ 15)) c t = f + 1 → (σ 16) f = 2 → post 1 (ft_cv (ft_lg σ t c (f + 1) ((σ 14) (8 * c + f))) (ft_ra ρ 30 (upd ((ρ 30)) r ((ρ 13) (8 * c + f))))))
    (h2 : ¬ ((σ 31) w).testBit c = true → ∀ f, f < t → ft_nb ((σ 15)) c t = f + 1 → (σ 16) f ≠ 2 → post 0 (ft_cv (ft_wa σ w t f) ρ)) : wpX_readInto post (ft_cv σ ρ) (nI w) (nI c) (nI r) := by
  unfold wpX_readInto ft_cv
  refine And.intro (ft_in hw) (nm_r ((ft_rd (by omega)).trans (congrArg nI et)) (And.intro (ft_in hw) (ek_if (d := ((σ 31) w).testBit c = true) (ft_bitA (by omega) (by omega)) ?_ ?_)))
  · intro hb
    exact And.intro (ft_inE (ft_l16 w c) (by omega)) (And.intro (ft_in hr) (nm_r (ft_wR (by omega) (ft_rRI (ft_l16 w c) (by omega))) (ho hb)))
  · intro hb
    refine xw_newestBefore (σ := σ) (ρ := ρ) hc (by omega) (fun e0 => ?_) (fun f hf ef => ?_)
    · exact br_t (by decide) (xw_ri97s hc hr ht hk (h0 hb e0))
    · refine br_f (nI_pos (by omega)) (And.intro (ft_in (by omega)) (pk_eq ((σ 16) f) 2 (fun e => ?_) (fun e => ?_) (ft_rd (by omega)) rfl (by have := hs f (by omega); omega) (by omega)))
      · exact xw_ri97v hc hr ht (by omega) hk (h1 hb f hf ef e)
      · refine And.intro (ft_in (by omega)) (And.intro (ft_in (by omega)) (nm_r (ft_wr (v := (σ 18) f ||| 2 ^ t) (by omega) (ft_rdOr (by omega) (by omega))) (And.intro (ft_in ht) (nm_r (ft_wr (v := 3) (by omega)) (And.intro (ft_in hw) (nm_r (ft_wr (v := 0) (by omega)) (h2 hb f hf ef e)))))))
def ft_sf (σ : Nat → Nat → Nat) (w c : Nat) : Nat → Nat → Nat := ft_sa σ 31 (ft_un ((σ 31)) w ((σ 31) w ||| 2 ^ c))
theorem xw_storeFrom {post : SX → Prop} {σ : Nat → Nat → Nat} {ρ : Nat → Nat → Int32} {w c : Nat} {x : Int32} (hw : w < 6) (hc : c < 16) (h : post (ft_cv (ft_sf σ w c) (ft_ra ρ 32 (upd ((ρ 32)) (16 * w + c) x)))) : wpX_storeFrom post (ft_cv σ ρ) (nI w) (nI c) x := by
  unfold wpX_storeFrom ft_cv
  exact And.intro (ft_in hw) (And.intro (ft_in hw) (nm_r (ft_wr (v := (σ 31) w ||| 2 ^ c) (by omega) (ft_rdOr (by omega) (by omega))) (And.intro (ft_inE (ft_l16 w c) (by omega)) (nm_r (ft_wRI (ft_l16 w c) (by omega) rfl) h))))
theorem xw_compute {post : SX → Prop} {σ : Nat → Nat → Nat} {ρ : Nat → Nat → Int32} {o a b : Nat} {n : Int32} (ho : o ≤ 11) (ha : a < 24) (hb : b < 24)
    (h0 : o = 0 → post (ft_cv σ (ft_ra ρ 30 (upd ((ρ 30)) a n))))
    (h1 : o = 1 → post (ft_cv σ (ft_ra ρ 30 (upd ((ρ 30)) a ((ρ 30) a + (ρ 30) b)))))
    (h2 : o = 2 → post (ft_cv σ (ft_ra ρ 30 (upd ((ρ 30)) a ((ρ 30) a - (ρ 30) b)))))
    (h3 : o ≠ 0 → o ≠ 1 → o ≠ 2 → post (ft_cv σ (ft_ra ρ 30 (upd ((ρ 30)) a ((ρ 30) a * (ρ 30) b))))) : wpX_compute post (ft_cv σ ρ) (nI o) (nI a) (nI b) n := by
  unfold wpX_compute ft_cv
  refine pk_eq o 0 (fun e => And.intro (ft_in ha) (nm_r (ft_wR (by omega)) (h0 e))) (fun e0 => pk_eq o 1 (fun e => And.intro (ft_in ha) (And.intro (ft_in hb) (And.intro (ft_in ha) (nm_r (ft_wR (z := (ρ 30) a + (ρ 30) b) (by omega) ?_) (h1 e))))) (fun e1 => pk_eq o 2 (fun e => And.intro (ft_in ha) (And.intro (ft_in hb) (And.intro (ft_in ha) (nm_r (ft_wR (z := (ρ 30) a - (ρ 30) b) (by omega) ?_) (h2 e))))) (fun e2 => And.intro (ft_in ha) (And.intro (ft_in hb) (And.intro (ft_in ha) (nm_r (ft_wR (z := (ρ 30) a * (ρ 30) b) (by omega) ?_) (h3 e0 e1 e2)))))))
  all_goals rw [ft_rR (a := (ρ 30)) (i := a) (by omega), ft_rR (a := (ρ 30)) (i := b) (by omega)]
theorem xw_steer {post : SX → Prop} {σ : Nat → Nat → Nat} {ρ : Nat → Nat → Int32} {w o a b : Nat} {n : Int32} (hw : w < 6) (ho : o = 6 ∨ o = 7 ∨ o = 11) (ha : a < 24) (hb : b < 24)
    (h6a : o = 6 → ¬ (ρ 30) a < (ρ 30) b → post (ft_cv (ft_sa σ 29 (ft_un ((σ 29)) w ((σ 29) w))) ρ))
    (h6b : o = 6 → (ρ 30) a < (ρ 30) b → post (ft_cv (ft_sa σ 29 (ft_un ((σ 29)) w ((σ 29) w + 1))) ρ))
    (h7a : o = 7 → ¬ (ρ 30) a < n → post (ft_cv σ ρ))
    (h7b : o = 7 → (ρ 30) a < n → post (ft_cv (ft_sa (ft_sa σ 33 (ft_un ((σ 33)) w 1)) 29 (ft_un ((σ 29)) w 12)) ρ))
    (h11 : o = 11 → post (ft_cv (ft_sa σ 29 (ft_un ((σ 29)) w 12)) ρ)) : wpX_steer post (ft_cv σ ρ) (nI w) (nI o) (nI a) (nI b) n := by
  unfold wpX_steer ft_cv
  refine pk_eq o 6 (fun e => And.intro (ft_in hw) (And.intro (ft_in ha) (And.intro (ft_in hb) ?_))) (fun e6 => pk_eq o 7 (fun e => And.intro (ft_in ha) ?_) (fun e7 => ?_))
  · refine ek_if (d := ¬ (ρ 30) a < (ρ 30) b) ?_ (fun hh => ?_) (fun hh => ?_)
    · rw [ft_rR (a := (ρ 30)) (i := a) (by omega), ft_rR (a := (ρ 30)) (i := b) (by omega)]
      exact Int32.not_lt.symm
    · exact And.intro (ft_in hw) (nm_r (ft_wr (v := (σ 29) w) (by omega) (ft_rdZ (by omega))) (h6a e hh))
    · exact And.intro (ft_in hw) (nm_r (ft_wr (v := (σ 29) w + 1) (by omega) (ft_rd1 (by omega))) (h6b e (Decidable.not_not.mp hh)))
  · refine ek_if (d := ¬ (ρ 30) a < n) ?_ (fun hh => ?_) (fun hh => ?_)
    · rw [ft_rR (a := (ρ 30)) (i := a) (by omega)]
      exact Int32.not_lt.symm
    · unfold wX_steer_74
      exact pk_eq o 11 (fun e' => absurd e' (by omega)) (fun _ => h7a e hh)
    · exact And.intro (ft_in hw) (nm_r (ft_wr (v := 1) (by omega)) (And.intro (ft_in hw) (nm_r (ft_wr (v := 12) (by omega)) (h7b e (Decidable.not_not.mp hh)))))
  · unfold wX_steer_74
    exact pk_eq o 11 (fun e' => And.intro (ft_in hw) (nm_r (ft_wr (v := 12) (by omega)) (h11 e'))) (fun e' => absurd e' (by omega))
def ft_p1 (σ : Nat → Nat → Nat) (w : Nat) : Nat → Nat → Nat := ft_sa σ 29 (ft_un ((σ 29)) w ((σ 29) w + 1))
def ft_oc (σ : Nat → Nat → Nat) (t : Nat) : Nat → Nat → Nat := ft_sa σ 24 (ft_un ((σ 24)) t ((σ 24) t + 1))
theorem xw_carryOn {post : SX → Prop} {σ : Nat → Nat → Nat} {ρ : Nat → Nat → Int32} {w t p o a b : Nat} (hw : w < 6) (ht : t < 8) (et : (σ 27) w = t) (hf : (σ 33) w ≤ 1) (hz : (σ 31) w < 65536) (hn : (σ 3 0) ≤ 8) (hk : (σ 4 0) ≤ 8) (hl : (σ 9) t ≤ 12) (hp : (σ 29) w ≤ 13) (hrc : (σ 19) t ≤ (σ 29) w) (hoc : (σ 24) t ≤ (σ 29) w) (hs : ∀ j, j < 8 → (σ 16) j < 4)
    (ep : p = 12 * t + (σ 29) w) (eo : (σ 10) p = o) (ea : a = 4 * w + (σ 11) p / 4) (eb : b = 4 * w + (σ 11) p % 4) (hop : (σ 29) w < (σ 9) t → o ≤ 11) (hpl : (σ 29) w < (σ 9) t → (σ 11) p ≤ 15)
    (hf0 : (σ 9) t ≤ (σ 29) w → (σ 4 0) ≤ t → post (ft_cv (ft_fi σ w t) (ft_apr ρ w t (ft_zs σ w))))
    (hf1 : (σ 9) t ≤ (σ 29) w → t < (σ 4 0) → ft_le (ft_zs σ w) ((σ 15) t) → post (ft_cv (ft_bc (ft_fi σ w t) w t) (ft_apr ρ w t (ft_zs σ w))))
    (hf2 : (σ 9) t ≤ (σ 29) w → t < (σ 4 0) → ¬ ft_le (ft_zs σ w) ((σ 15) t) → post (ft_cv (ft_sc (ft_fi σ w t) 4 t) (ft_apr ρ w t (ft_zs σ w))))
    (h0 : (σ 29) w < (σ 9) t → o = 0 → post (ft_cv (ft_p1 σ w) (ft_ra ρ 30 (upd ((ρ 30)) a ((ρ 12) p)))))
    (h1 : (σ 29) w < (σ 9) t → o = 1 → post (ft_cv (ft_p1 σ w) (ft_ra ρ 30 (upd ((ρ 30)) a ((ρ 30) a + (ρ 30) b)))))
    (h2 : (σ 29) w < (σ 9) t → o = 2 → post (ft_cv (ft_p1 σ w) (ft_ra ρ 30 (upd ((ρ 30)) a ((ρ 30) a - (ρ 30) b)))))
    (h5 : (σ 29) w < (σ 9) t → o = 5 → post (ft_cv (ft_p1 σ w) (ft_ra ρ 30 (upd ((ρ 30)) a ((ρ 30) a * (ρ 30) b)))))
    (hro : (σ 29) w < (σ 9) t → ∀ c, (o = 3 ∧ c = mc_c ((ρ 12) p)) ∨ (o = 9 ∧ c = mc_c ((ρ 30) b)) → ((σ 31) w).testBit c = true → post (ft_cv (ft_p1 σ w) (ft_ra ρ 30 (upd ((ρ 30)) a ((ρ 32) (16 * w + c))))))
    (hr0 : (σ 29) w < (σ 9) t → ∀ c, (o = 3 ∧ c = mc_c ((ρ 12) p)) ∨ (o = 9 ∧ c = mc_c ((ρ 30) b)) → ¬ ((σ 31) w).testBit c = true → ft_nb ((σ 15)) c t = 0 → post (ft_cv (ft_lg (ft_p1 σ w) t c 0 0) (ft_ra ρ 30 (upd ((ρ 30)) a ((ρ 8) c)))))
    (hr1 : (σ 29) w < (σ 9) t → ∀ c, (o = 3 ∧ c = mc_c ((ρ 12) p)) ∨ (o = 9 ∧ c = mc_c ((ρ 30) b)) → ¬ ((σ 31) w).testBit c = true → ∀ f, f < t → ft_nb ((σ 15)) c t = f + 1 → (σ 16) f = 2 → post (ft_cv (ft_lg (ft_p1 σ w) t c (f + 1) ((σ 14) (8 * c + f))) (ft_ra ρ 30 (upd ((ρ 30)) a ((ρ 13) (8 * c + f))))))
    (hr2 : (σ 29) w < (σ 9) t → ∀ c, (o = 3 ∧ c = mc_c ((ρ 12) p)) ∨ (o = 9 ∧ c = mc_c ((ρ 30) b)) → ¬ ((σ 31) w).testBit c = true → ∀ f, f < t → ft_nb ((σ 15)) c t = f + 1 → (σ 16) f ≠ 2 → post (ft_cv (ft_wa (ft_p1 σ w) w t f) ρ))
    (hst : (σ 29) w < (σ 9) t → ∀ c, (o = 4 ∧ c = mc_c ((ρ 12) p)) ∨ (o = 10 ∧ c = mc_c ((ρ 30) b)) → post (ft_cv (ft_sf (ft_p1 σ w) w c) (ft_ra ρ 32 (upd ((ρ 32)) (16 * w + c) ((ρ 30) a)))))
    (h8 : (σ 29) w < (σ 9) t → o = 8 → post (ft_cv (ft_oc (ft_p1 σ w) t) (ft_ra ρ 25 (upd ((ρ 25)) (12 * t + (σ 24) t) ((ρ 30) a)))))
    (h6a : (σ 29) w < (σ 9) t → o = 6 → ¬ (ρ 30) a < (ρ 30) b → post (ft_cv (ft_p1 σ w) ρ))
    (h6b : (σ 29) w < (σ 9) t → o = 6 → (ρ 30) a < (ρ 30) b → post (ft_cv (ft_sa σ 29 (ft_un ((σ 29)) w ((σ 29) w + 2))) ρ))
    (h7a : (σ 29) w < (σ 9) t → o = 7 → ¬ (ρ 30) a < (ρ 12) p → post (ft_cv (ft_p1 σ w) ρ))
    (h7b : (σ 29) w < (σ 9) t → o = 7 → (ρ 30) a < (ρ 12) p → post (ft_cv (ft_sa (ft_sa σ 33 (ft_un ((σ 33)) w 1)) 29 (ft_un ((σ 29)) w 12)) ρ))
    (h11 : (σ 29) w < (σ 9) t → o = 11 → post (ft_cv (ft_sa σ 29 (ft_un ((σ 29)) w 12)) ρ)) : wpX_carryOn post (ft_cv σ ρ) (nI w) := by
  unfold wpX_carryOn ft_cv
  refine And.intro (ft_in hw) (nm_r ((ft_rd (by omega)).trans (congrArg nI et)) (And.intro (ft_in hw) (And.intro (ft_in ht) (pk_lt ((σ 29) w) ((σ 9) t) (fun hlt => ?_) (fun hge => ?_) (ft_rd (by omega)) (ft_rd (by omega)) (by omega) (by omega)))))
  · have ho := hop hlt
    have hpl' := hpl hlt
    have h96 : p < 96 := by omega
    have ha : a < 24 := by omega
    have hb : b < 24 := by omega
    refine And.intro (ft_in hw) (nm_r (e' := nI p) ((ft_l12A (by omega)).trans (congrArg nI ep.symm)) (And.intro (ft_in h96) (nm_r (e' := nI a) ((ft_shA (by omega) (by omega)).trans (congrArg nI ea.symm)) (And.intro (ft_in h96) (nm_r (e' := nI b) ((ft_anA (by omega) (by omega)).trans (congrArg nI eb.symm)) (And.intro (ft_in h96) (nm_r (e' := nI o) ((ft_rd (by omega)).trans (congrArg nI eo)) (And.intro (ft_in hw) (And.intro (ft_in hw) (nm_r (ft_wr (v := (σ 29) w + 1) (by omega) (ft_rd1 (by omega))) ?_))))))))))
    refine pk_le o 2 (fun h => ?_) (fun hx2 => pk_eq o 5 (fun e => ?_) (fun e5 => pk_eq o 3 (fun e => And.intro (ft_in h96) ?_) (fun e3 => pk_eq o 9 (fun e => And.intro (ft_in hb) ?_) (fun e9 => pk_eq o 4 (fun e => And.intro (ft_in h96) (And.intro (ft_in ha) ?_)) (fun e4 => pk_eq o 10 (fun e => And.intro (ft_in hb) (And.intro (ft_in ha) ?_)) (fun e10 => pk_eq o 8 (fun e => And.intro (ft_in ht) (And.intro (ft_in ha) ?_)) (fun e8 => And.intro (ft_in h96) ?_)))))))
    · unfold wX_carryOn_98
      refine And.intro (ft_in h96) ?_
      rw [ft_rR (a := (ρ 12)) (i := p) (by omega)]
      exact xw_compute (σ := ft_p1 σ w) (ρ := ρ) ho ha hb (h0 hlt) (h1 hlt) (h2 hlt) (fun a b c => absurd h (by omega))
    · unfold wX_carryOn_98
      refine And.intro (ft_in h96) ?_
      rw [ft_rR (a := (ρ 12)) (i := p) (by omega)]
      exact xw_compute (σ := ft_p1 σ w) (ρ := ρ) ho ha hb (h0 hlt) (h1 hlt) (h2 hlt) (fun _ _ _ => h5 hlt e)
    · rw [ft_rR (a := (ρ 12)) (i := p) (by omega), mc_cE]
      exact xw_readInto (σ := ft_p1 σ w) (ρ := ρ) hw (mc_cL _) ha ht et (show (σ 19) t ≤ 11 by omega) hs (hro hlt _ (Or.inl ⟨e, rfl⟩)) (hr0 hlt _ (Or.inl ⟨e, rfl⟩)) (hr1 hlt _ (Or.inl ⟨e, rfl⟩)) (hr2 hlt _ (Or.inl ⟨e, rfl⟩))
    · rw [ft_rR (a := (ρ 30)) (i := b) (by omega), mc_cE]
      exact xw_readInto (σ := ft_p1 σ w) (ρ := ρ) hw (mc_cL _) ha ht et (show (σ 19) t ≤ 11 by omega) hs (hro hlt _ (Or.inr ⟨e, rfl⟩)) (hr0 hlt _ (Or.inr ⟨e, rfl⟩)) (hr1 hlt _ (Or.inr ⟨e, rfl⟩)) (hr2 hlt _ (Or.inr ⟨e, rfl⟩))
    · rw [ft_rR (a := (ρ 12)) (i := p) (by omega), mc_cE, ft_rR (a := (ρ 30)) (i := a) (by omega)]
      exact xw_storeFrom (σ := ft_p1 σ w) (ρ := ρ) hw (mc_cL _) (hst hlt _ (Or.inl ⟨e, rfl⟩))
    · rw [ft_rR (a := (ρ 30)) (i := b) (by omega), mc_cE, ft_rR (a := (ρ 30)) (i := a) (by omega)]
      exact xw_storeFrom (σ := ft_p1 σ w) (ρ := ρ) hw (mc_cL _) (hst hlt _ (Or.inr ⟨e, rfl⟩))
    · have ei : (12 : Int32) * nI t + ft_nA ((σ 24)) (nI t).toNatClampNeg = nI (12 * t + (σ 24) t) := by
        exact ft_l12A (by omega)
      exact And.intro (ft_inE ei (by omega)) (nm_r (ft_wRI ei (by omega) (ft_rR (a := (ρ 30)) (i := a) (by omega))) (And.intro (ft_in ht) (And.intro (ft_in ht) (nm_r (ft_wr (v := (σ 24) t + 1) (by omega) (ft_rd1 (by omega))) (h8 hlt e)))))
    · rw [ft_rR (a := (ρ 12)) (i := p) (by omega)]
      refine xw_steer (σ := ft_p1 σ w) (ρ := ρ) hw (by omega) ha hb (fun e h => ?_) (fun e h => ?_) (h7a hlt) (fun e h => ?_) (fun e => ?_)
      · have e1 : ft_sa (ft_p1 σ w) 29 (ft_un (((ft_p1 σ w) 29)) w (((ft_p1 σ w) 29) w)) = ft_p1 σ w := by
          rw [ft_unId]
          funext g
          unfold ft_sa
          cases hg : Nat.beq g 29 with
          | false => rfl
          | true => rw [Nat.eq_of_beq_eq_true hg]; rfl
        rw [e1]
        exact h6a hlt e h
      · have e1 : ft_un (((ft_p1 σ w) 29)) w (((ft_p1 σ w) 29) w + 1) = ft_un ((σ 29)) w ((σ 29) w + 2) := by
          show ft_un (ft_un ((σ 29)) w ((σ 29) w + 1)) w (ft_un ((σ 29)) w ((σ 29) w + 1) w + 1) = _
          rw [ft_unUn, ft_unS]
        rw [e1]
        exact h6b hlt e h
      · have e1 : ft_un (((ft_p1 σ w) 29)) w 12 = ft_un ((σ 29)) w 12 := ft_unUn _ _ _ _
        rw [e1]
        exact h7b hlt e h
      · have e1 : ft_un (((ft_p1 σ w) 29)) w 12 = ft_un ((σ 29)) w 12 := ft_unUn _ _ _ _
        rw [e1]
        exact h11 hlt e
  · exact xw_finish (σ := σ) (ρ := ρ) hw ht et hf hz hn hk (hf0 hge) (hf1 hge) (hf2 hge)
end
section
/-! the machine that carries one transaction out: position, cells stored, failed, outs, registers, memory as it sees it, what it put out -/
abbrev mc_M : Type := Nat × Nat × Nat × Nat × (Nat → Int32) × (Nat → Int32) × (Nat → Int32)
def mc_ex (o a b : Nat) (n : Int32) (m : mc_M) : mc_M := match m with
  | (pos, mask, fail, oc, reg, mem, ou) =>
    if o = 0 then (pos + 1, mask, fail, oc, upd reg a n, mem, ou)
    else if o = 1 then (pos + 1, mask, fail, oc, upd reg a (reg a + reg b), mem, ou)
    else if o = 2 then (pos + 1, mask, fail, oc, upd reg a (reg a - reg b), mem, ou)
    else if o = 3 then (pos + 1, mask, fail, oc, upd reg a (mem (mc_c n)), mem, ou)
    else if o = 4 then (pos + 1, mask ||| 2 ^ mc_c n, fail, oc, reg, upd mem (mc_c n) (reg a), ou)
    else if o = 5 then (pos + 1, mask, fail, oc, upd reg a (reg a * reg b), mem, ou)
    else if o = 6 then ((if reg a < reg b then pos + 2 else pos + 1), mask, fail, oc, reg, mem, ou)
    else if o = 7 then (if reg a < n then (12, mask, 1, oc, reg, mem, ou) else (pos + 1, mask, fail, oc, reg, mem, ou))
    else if o = 8 then (pos + 1, mask, fail, oc + 1, reg, mem, upd ou oc (reg a))
    else if o = 9 then (pos + 1, mask, fail, oc, upd reg a (mem (mc_c (reg b))), mem, ou)
    else if o = 10 then (pos + 1, mask ||| 2 ^ mc_c (reg b), fail, oc, reg, upd mem (mc_c (reg b)) (reg a), ou)
    else (12, mask, fail, oc, reg, mem, ou)
def mc_st (op pl : Nat → Nat) (nu : Nat → Int32) (t : Nat) (m : mc_M) : mc_M := mc_ex (op (12 * t + m.1)) (pl (12 * t + m.1) / 4) (pl (12 * t + m.1) % 4) (nu (12 * t + m.1)) m
def mc_0 (g : Nat → Int32) : mc_M := (0, 0, 0, 0, (fun _ => 0), g, (fun _ => 0))
def mc_run (ln op pl : Nat → Nat) (nu : Nat → Int32) (t : Nat) (g : Nat → Int32) : Nat → mc_M
  | 0 => mc_0 g
  | k + 1 => if ln t ≤ (mc_run ln op pl nu t g k).1 then mc_run ln op pl nu t g k else mc_st op pl nu t (mc_run ln op pl nu t g k)
/-- a worker's state is the machine's at m, over the memory g -/
def mc_R (p z e o : Nat) (rg sv uo : Nat → Int32) (w t : Nat) (g : Nat → Int32) (m : mc_M) : Prop := m.1 = p ∧ m.2.1 = z ∧ m.2.2.1 = e ∧ m.2.2.2.1 = o ∧ (∀ r, r < 4 → rg (4 * w + r) = m.2.2.2.2.1 r) ∧ (∀ c, c < 16 → m.2.2.2.2.2.1 c = if z.testBit c = true then sv (16 * w + c) else g c) ∧ (∀ k, k < o → uo (12 * t + k) = m.2.2.2.2.2.2 k)
/-- a register's write -/
theorem mc_wr {w i : Nat} {rg reg : Nat → Int32} {x y : Int32} (h : ∀ r, r < 4 → rg (4 * w + r) = reg r) (e : x = y) : ∀ r, r < 4 → upd rg (4 * w + i) x (4 * w + r) = upd reg i y r := by
  intro r hr
  by_cases hi : r = i
  · subst hi
    rw [pk_us, pk_us, e]
  · rw [pk_un (by omega), pk_un hi, h r hr]
section
variable {p z e o : Nat} {rg sv uo : Nat → Int32} {w t : Nat} {g : Nat → Int32} {m : mc_M} {a b : Nat} {n : Int32}
theorem mc_x0 (h : mc_R p z e o rg sv uo w t g m) : mc_R (p + 1) z e o (upd rg (4 * w + a) n) sv uo w t g (mc_ex 0 a b n m) := by
  obtain ⟨pos, mask, fail, oc, reg, mem, ou⟩ := m
  obtain ⟨h1, h2, h3, h4, h5, h6, h7⟩ := h
  exact ⟨congrArg (· + 1) h1, h2, h3, h4, mc_wr h5 rfl, h6, h7⟩
theorem mc_x1 (ha : a < 4) (hb : b < 4) (h : mc_R p z e o rg sv uo w t g m) : mc_R (p + 1) z e o (upd rg (4 * w + a) (rg (4 * w + a) + rg (4 * w + b))) sv uo w t g (mc_ex 1 a b n m) := by
  obtain ⟨pos, mask, fail, oc, reg, mem, ou⟩ := m
  obtain ⟨h1, h2, h3, h4, h5, h6, h7⟩ := h
  exact ⟨congrArg (· + 1) h1, h2, h3, h4, mc_wr h5 (by rw [h5 a ha, h5 b hb]), h6, h7⟩
theorem mc_x2 (ha : a < 4) (hb : b < 4) (h : mc_R p z e o rg sv uo w t g m) : mc_R (p + 1) z e o (upd rg (4 * w + a) (rg (4 * w + a) - rg (4 * w + b))) sv uo w t g (mc_ex 2 a b n m) := by
  obtain ⟨pos, mask, fail, oc, reg, mem, ou⟩ := m
  obtain ⟨h1, h2, h3, h4, h5, h6, h7⟩ := h
  exact ⟨congrArg (· + 1) h1, h2, h3, h4, mc_wr h5 (by rw [h5 a ha, h5 b hb]), h6, h7⟩
theorem mc_x5 (ha : a < 4) (hb : b < 4) (h : mc_R p z e o rg sv uo w t g m) : mc_R (p + 1) z e o (upd rg (4 * w + a) (rg (4 * w + a) * rg (4 * w + b))) sv uo w t g (mc_ex 5 a b n m) := by
  obtain ⟨pos, mask, fail, oc, reg, mem, ou⟩ := m
  obtain ⟨h1, h2, h3, h4, h5, h6, h7⟩ := h
  exact ⟨congrArg (· + 1) h1, h2, h3, h4, mc_wr h5 (by rw [h5 a ha, h5 b hb]), h6, h7⟩
/-- a read that finds x: its own store, or the memory -/
theorem mc_x3 {x : Int32} (h : mc_R p z e o rg sv uo w t g m) (hx : x = if z.testBit (mc_c n) = true then sv (16 * w + mc_c n) else g (mc_c n)) : mc_R (p + 1) z e o (upd rg (4 * w + a) x) sv uo w t g (mc_ex 3 a b n m) := by
  obtain ⟨pos, mask, fail, oc, reg, mem, ou⟩ := m
  obtain ⟨h1, h2, h3, h4, h5, h6, h7⟩ := h
  exact ⟨congrArg (· + 1) h1, h2, h3, h4, mc_wr h5 (hx.trans (h6 _ (mc_cL _)).symm), h6, h7⟩
theorem mc_x9 {x : Int32} (hb : b < 4) (h : mc_R p z e o rg sv uo w t g m) (hx : x = if z.testBit (mc_c (rg (4 * w + b))) = true then sv (16 * w + mc_c (rg (4 * w + b))) else g (mc_c (rg (4 * w + b)))) : mc_R (p + 1) z e o (upd rg (4 * w + a) x) sv uo w t g (mc_ex 9 a b n m) := by
  obtain ⟨pos, mask, fail, oc, reg, mem, ou⟩ := m
  obtain ⟨h1, h2, h3, h4, h5, h6, h7⟩ := h
  rw [h5 b hb] at hx
  exact ⟨congrArg (· + 1) h1, h2, h3, h4, mc_wr h5 (hx.trans (h6 _ (mc_cL _)).symm), h6, h7⟩
theorem mc_sto {c : Nat} {x y : Int32} {mem : Nat → Int32} (hc : c < 16) (e : x = y) (h6 : ∀ c, c < 16 → mem c = if z.testBit c = true then sv (16 * w + c) else g c) : ∀ d, d < 16 → upd mem c y d = if (z ||| 2 ^ c).testBit d = true then upd sv (16 * w + c) x (16 * w + d) else g d := by
  intro d hd
  rw [ft_orB]
  by_cases hi : d = c
  · subst hi
    rw [pk_us, pk_us, e]
    simp
  · rw [pk_un hi, pk_un (by omega), h6 d hd]
    have : decide (c = d) = false := decide_eq_false (fun q => hi q.symm)
    rw [this, Bool.or_false]
theorem mc_x4 (ha : a < 4) (h : mc_R p z e o rg sv uo w t g m) : mc_R (p + 1) (z ||| 2 ^ mc_c n) e o rg (upd sv (16 * w + mc_c n) (rg (4 * w + a))) uo w t g (mc_ex 4 a b n m) := by
  obtain ⟨pos, mask, fail, oc, reg, mem, ou⟩ := m
  obtain ⟨h1, h2, h3, h4, h5, h6, h7⟩ := h
  exact ⟨congrArg (· + 1) h1, congrArg (· ||| 2 ^ mc_c n) h2, h3, h4, h5, mc_sto (mc_cL _) (h5 a ha) h6, h7⟩
theorem mc_x10 (ha : a < 4) (hb : b < 4) (h : mc_R p z e o rg sv uo w t g m) : mc_R (p + 1) (z ||| 2 ^ mc_c (rg (4 * w + b))) e o rg (upd sv (16 * w + mc_c (rg (4 * w + b))) (rg (4 * w + a))) uo w t g (mc_ex 10 a b n m) := by
  obtain ⟨pos, mask, fail, oc, reg, mem, ou⟩ := m
  obtain ⟨h1, h2, h3, h4, h5, h6, h7⟩ := h
  rw [h5 b hb]
  exact ⟨congrArg (· + 1) h1, congrArg (· ||| 2 ^ mc_c (reg b)) h2, h3, h4, h5, mc_sto (mc_cL _) (h5 a ha) h6, h7⟩
theorem mc_x6a (ha : a < 4) (hb : b < 4) (hl : ¬ rg (4 * w + a) < rg (4 * w + b)) (h : mc_R p z e o rg sv uo w t g m) : mc_R (p + 1) z e o rg sv uo w t g (mc_ex 6 a b n m) := by
  obtain ⟨pos, mask, fail, oc, reg, mem, ou⟩ := m
  obtain ⟨h1, h2, h3, h4, h5, h6, h7⟩ := h
  rw [h5 a ha, h5 b hb] at hl
  refine ⟨?_, h2, h3, h4, h5, h6, h7⟩
  show (if reg a < reg b then pos + 2 else pos + 1) = p + 1
  rw [if_neg hl]
  exact congrArg (· + 1) h1
theorem mc_x6b (ha : a < 4) (hb : b < 4) (hl : rg (4 * w + a) < rg (4 * w + b)) (h : mc_R p z e o rg sv uo w t g m) : mc_R (p + 2) z e o rg sv uo w t g (mc_ex 6 a b n m) := by
  obtain ⟨pos, mask, fail, oc, reg, mem, ou⟩ := m
  obtain ⟨h1, h2, h3, h4, h5, h6, h7⟩ := h
  rw [h5 a ha, h5 b hb] at hl
  refine ⟨?_, h2, h3, h4, h5, h6, h7⟩
  show (if reg a < reg b then pos + 2 else pos + 1) = p + 2
  rw [if_pos hl]
  exact congrArg (· + 2) h1
theorem mc_x7a (ha : a < 4) (hl : ¬ rg (4 * w + a) < n) (h : mc_R p z e o rg sv uo w t g m) : mc_R (p + 1) z e o rg sv uo w t g (mc_ex 7 a b n m) := by
  obtain ⟨pos, mask, fail, oc, reg, mem, ou⟩ := m
  obtain ⟨h1, h2, h3, h4, h5, h6, h7⟩ := h
  rw [h5 a ha] at hl
  show mc_R _ _ _ _ _ _ _ _ _ _ (if reg a < n then (12, mask, 1, oc, reg, mem, ou) else (pos + 1, mask, fail, oc, reg, mem, ou))
  rw [if_neg hl]
  exact ⟨congrArg (· + 1) h1, h2, h3, h4, h5, h6, h7⟩
theorem mc_x7b (ha : a < 4) (hl : rg (4 * w + a) < n) (h : mc_R p z e o rg sv uo w t g m) : mc_R 12 z 1 o rg sv uo w t g (mc_ex 7 a b n m) := by
  obtain ⟨pos, mask, fail, oc, reg, mem, ou⟩ := m
  obtain ⟨h1, h2, h3, h4, h5, h6, h7⟩ := h
  rw [h5 a ha] at hl
  show mc_R _ _ _ _ _ _ _ _ _ _ (if reg a < n then (12, mask, 1, oc, reg, mem, ou) else (pos + 1, mask, fail, oc, reg, mem, ou))
  rw [if_pos hl]
  exact ⟨rfl, h2, rfl, h4, h5, h6, h7⟩
theorem mc_x8 (ha : a < 4) (h : mc_R p z e o rg sv uo w t g m) : mc_R (p + 1) z e (o + 1) rg sv (upd uo (12 * t + o) (rg (4 * w + a))) w t g (mc_ex 8 a b n m) := by
  obtain ⟨pos, mask, fail, oc, reg, mem, ou⟩ := m
  obtain ⟨h1, h2, h3, h4, h5, h6, h7⟩ := h
  refine ⟨congrArg (· + 1) h1, h2, h3, congrArg (· + 1) h4, h5, h6, ?_⟩
  intro k hk
  show upd uo (12 * t + o) (rg (4 * w + a)) (12 * t + k) = upd ou oc (reg a) k
  have h4' : oc = o := h4
  subst h4'
  by_cases hi : k = oc
  · subst hi
    rw [pk_us, pk_us, h5 a ha]
  · rw [pk_un (by omega), pk_un hi]
    exact h7 k (by omega)
theorem mc_x11 (h : mc_R p z e o rg sv uo w t g m) : mc_R 12 z e o rg sv uo w t g (mc_ex 11 a b n m) := by
  obtain ⟨pos, mask, fail, oc, reg, mem, ou⟩ := m
  obtain ⟨h1, h2, h3, h4, h5, h6, h7⟩ := h
  exact ⟨rfl, h2, h3, h4, h5, h6, h7⟩
end
/-! what one step of a worker may do -/
def ft_Loc (σ : Nat → Nat → Nat) (ρ : Nat → Nat → Int32) (w t : Nat) (σ' : Nat → Nat → Nat) (ρ' : Nat → Nat → Int32) : Prop :=
  ∃ (p' z' e' o' : Nat) (R V U : Nat → Int32), σ' = ft_sa (ft_sa (ft_sa (ft_sa σ 29 (ft_un ((σ 29)) w p')) 31 (ft_un ((σ 31)) w z')) 33 (ft_un ((σ 33)) w e')) 24 (ft_un ((σ 24)) t o') ∧ ρ' = ft_ra (ft_ra (ft_ra ρ 30 R) 32 V) 25 U
    ∧ (σ 29) w < p' ∧ p' ≤ 13 ∧ z' < 65536 ∧ e' ≤ 1 ∧ o' ≤ (σ 24) t + 1 ∧ o' ≤ 12
    ∧ (∀ j, j < 4 * w ∨ 4 * w + 4 ≤ j → R j = (ρ 30) j) ∧ (∀ j, j < 16 * w ∨ 16 * w + 16 ≤ j → V j = (ρ 32) j) ∧ (∀ j, j < 12 * t ∨ 12 * t + 12 ≤ j → U j = (ρ 25) j)
    ∧ (∀ g m, mc_R ((σ 29) w) ((σ 31) w) ((σ 33) w) ((σ 24) t) ((ρ 30)) ((ρ 32)) ((ρ 25)) w t g m → mc_R p' z' e' o' R V U w t g (mc_st ((σ 10)) ((σ 11)) ((ρ 12)) t m))
def ft_Log (σ : Nat → Nat → Nat) (ρ : Nat → Nat → Int32) (w t : Nat) (σ' : Nat → Nat → Nat) (ρ' : Nat → Nat → Int32) : Prop :=
  ∃ (c fr tn : Nat) (x : Int32) (R : Nat → Int32), σ' = ft_lg (ft_p1 σ w) t c fr tn ∧ ρ' = ft_ra ρ 30 R ∧ c < 16 ∧ ft_nb ((σ 15)) c t = fr
    ∧ ((fr = 0 ∧ tn = 0 ∧ x = (ρ 8) c) ∨ (∃ f, fr = f + 1 ∧ f < t ∧ (σ 16) f = 2 ∧ tn = (σ 14) (8 * c + f) ∧ x = (ρ 13) (8 * c + f)))
    ∧ (∀ j, j < 4 * w ∨ 4 * w + 4 ≤ j → R j = (ρ 30) j)
    ∧ (∀ g m, mc_R ((σ 29) w) ((σ 31) w) ((σ 33) w) ((σ 24) t) ((ρ 30)) ((ρ 32)) ((ρ 25)) w t g m → g c = x → mc_R ((σ 29) w + 1) ((σ 31) w) ((σ 33) w) ((σ 24) t) R ((ρ 32)) ((ρ 25)) w t g (mc_st ((σ 10)) ((σ 11)) ((ρ 12)) t m))
def ft_Wai (σ : Nat → Nat → Nat) (ρ : Nat → Nat → Int32) (w t : Nat) (σ' : Nat → Nat → Nat) (ρ' : Nat → Nat → Int32) : Prop :=
  ∃ f, f < t ∧ (σ 16) f ≠ 2 ∧ (∃ c, c < 16 ∧ ft_nb ((σ 15)) c t = f + 1) ∧ σ' = ft_wa (ft_p1 σ w) w t f ∧ ρ' = ρ
def ft_Fin (σ : Nat → Nat → Nat) (ρ : Nat → Nat → Int32) (w t : Nat) (σ' : Nat → Nat → Nat) (ρ' : Nat → Nat → Int32) : Prop :=
  ρ' = ft_apr ρ w t (ft_zs σ w) ∧ (((σ 4 0) ≤ t ∧ σ' = ft_fi σ w t) ∨ (t < (σ 4 0) ∧ ft_le (ft_zs σ w) ((σ 15) t) ∧ σ' = ft_bc (ft_fi σ w t) w t) ∨ (t < (σ 4 0) ∧ ¬ ft_le (ft_zs σ w) ((σ 15) t) ∧ σ' = ft_sc (ft_fi σ w t) 4 t))
/-- an idle worker -/
def ft_Tak (σ : Nat → Nat → Nat) (ρ : Nat → Nat → Int32) (w : Nat) (σ' : Nat → Nat → Nat) (ρ' : Nat → Nat → Int32) : Prop :=
  ((σ 0 0) ≤ (σ 3 0) ∧ (σ 0 0) ≤ (σ 4 0) ∧ σ' = σ ∧ ρ' = ρ)
  ∨ ((σ 4 0) < (σ 3 0) ∧ (σ 4 0) < (σ 0 0) ∧ (σ 16) ((σ 4 0)) = 2 ∧ σ' = ft_bc (ft_sc σ 4 ((σ 4 0) + 1)) w ((σ 4 0)) ∧ ρ' = ρ)
  ∨ ((σ 4 0) < (σ 3 0) ∧ (σ 4 0) < (σ 0 0) ∧ (σ 16) ((σ 4 0)) ≠ 2 ∧ σ' = ft_sc σ 4 ((σ 4 0) + 1) ∧ ρ' = ρ)
  ∨ ((σ 3 0) ≤ (σ 4 0) ∧ (σ 3 0) < (σ 0 0) ∧ (σ 16) ((σ 3 0)) = 0 ∧ σ' = ft_ca (ft_sc σ 3 ((σ 3 0) + 1)) w ((σ 3 0)) ∧ ρ' = ft_car ρ w)
  ∨ ((σ 3 0) ≤ (σ 4 0) ∧ (σ 3 0) < (σ 0 0) ∧ (σ 16) ((σ 3 0)) ≠ 0 ∧ σ' = ft_sc σ 3 ((σ 3 0) + 1) ∧ ρ' = ρ)
def ft_Chk (σ : Nat → Nat → Nat) (ρ : Nat → Nat → Int32) (w t : Nat) (σ' : Nat → Nat → Nat) (ρ' : Nat → Nat → Int32) : Prop :=
  ((σ 16) t = 2 ∧ (σ 17) t = (σ 28) w ∧ ¬ ft_rh σ t ∧ σ' = ft_ab σ w t ∧ ρ' = ρ) ∨ ((¬ ((σ 16) t = 2 ∧ (σ 17) t = (σ 28) w) ∨ ft_rh σ t) ∧ σ' = ft_id σ w ∧ ρ' = ρ)
def ft_Stp (σ : Nat → Nat → Nat) (ρ : Nat → Nat → Int32) (w : Nat) (σ' : Nat → Nat → Nat) (ρ' : Nat → Nat → Int32) : Prop :=
  ((σ 26) w = 0 ∧ ft_Tak σ ρ w σ' ρ') ∨ ((σ 26) w = 2 ∧ ft_Chk σ ρ w ((σ 27) w) σ' ρ') ∨ ((σ 26) w = 1 ∧ (σ 9) ((σ 27) w) ≤ (σ 29) w ∧ ft_Fin σ ρ w ((σ 27) w) σ' ρ')
  ∨ ((σ 26) w = 1 ∧ (σ 29) w < (σ 9) ((σ 27) w) ∧ (ft_Loc σ ρ w ((σ 27) w) σ' ρ' ∨ ft_Log σ ρ w ((σ 27) w) σ' ρ' ∨ ft_Wai σ ρ w ((σ 27) w) σ' ρ'))
end
section
/-! X: step, as one of the outcomes -/
def ft_WF (σ : Nat → Nat → Nat) (w : Nat) : Prop := (σ 0 0) ≤ 8 ∧ (σ 3 0) ≤ 8 ∧ (σ 4 0) ≤ 8 ∧ (∀ j, j < 8 → (σ 16) j < 4) ∧ (σ 26) w ≤ 2 ∧ ((σ 26) w ≠ 0 → (σ 27) w < 8) ∧ (∀ t, t < 8 → ft_rb σ t) ∧ (∀ t, t < 8 → (σ 17) t < 2147483648) ∧ ((σ 26) w ≠ 0 → (σ 28) w < 2147483648) ∧ ((σ 26) w = 1 → (σ 33) w ≤ 1 ∧ (σ 31) w < 65536 ∧ (σ 29) w ≤ 13 ∧ (σ 19) ((σ 27) w) ≤ (σ 29) w ∧ (σ 24) ((σ 27) w) ≤ (σ 29) w) ∧ (∀ j, j < 8 → (σ 9) j ≤ 12) ∧ (∀ j, j < 96 → (σ 10) j ≤ 11 ∧ (σ 11) j ≤ 15)
theorem ft_locI {P : (Nat → Nat → Nat) → (Nat → Nat → Int32) → Prop} {σ : Nat → Nat → Nat} {ρ : Nat → Nat → Int32} {w t : Nat} (H : ∀ σ' ρ', ft_Loc σ ρ w t σ' ρ' → P σ' ρ') (p' z' e' o' : Nat) (R V U : Nat → Int32) (h1 : (σ 29) w < p') (h2 : p' ≤ 13) (h3 : z' < 65536) (h4 : e' ≤ 1) (h5 : o' ≤ (σ 24) t + 1) (h6 : o' ≤ 12) (h7 : ∀ j, j < 4 * w ∨ 4 * w + 4 ≤ j → R j = (ρ 30) j) (h8 : ∀ j, j < 16 * w ∨ 16 * w + 16 ≤ j → V j = (ρ 32) j) (h9 : ∀ j, j < 12 * t ∨ 12 * t + 12 ≤ j → U j = (ρ 25) j)
    (h10 : ∀ g m, mc_R ((σ 29) w) ((σ 31) w) ((σ 33) w) ((σ 24) t) ((ρ 30)) ((ρ 32)) ((ρ 25)) w t g m → mc_R p' z' e' o' R V U w t g (mc_st ((σ 10)) ((σ 11)) ((ρ 12)) t m)) : P (ft_sa (ft_sa (ft_sa (ft_sa σ 29 (ft_un ((σ 29)) w p')) 31 (ft_un ((σ 31)) w z')) 33 (ft_un ((σ 33)) w e')) 24 (ft_un ((σ 24)) t o')) (ft_ra (ft_ra (ft_ra ρ 30 R) 32 V) 25 U) :=
  H _ _ ⟨p', z', e', o', R, V, U, rfl, rfl, h1, h2, h3, h4, h5, h6, h7, h8, h9, h10⟩
/-- the machine's step at a known instruction -/
theorem mc_stE {op pl : Nat → Nat} {nu : Nat → Int32} {t p P o : Nat} {m : mc_M} {z e oc : Nat} {rg sv uo : Nat → Int32} {w : Nat} {g : Nat → Int32} (h : mc_R p z e oc rg sv uo w t g m) (ep : P = 12 * t + p) (eo : op P = o) : mc_st op pl nu t m = mc_ex o (pl P / 4) (pl P % 4) (nu P) m := by
  unfold mc_st
  rw [h.1, ← ep, eo]
theorem ft_upO {a : Nat → Int32} {lo hi i : Nat} {x : Int32} (h1 : lo ≤ i) (h2 : i < hi) : ∀ j, j < lo ∨ hi ≤ j → upd a i x j = a j := by
  intro j hj
  exact pk_un (by omega)
set_option maxHeartbeats 4000000 in
theorem xw_carry {post : SX → Prop} {σ : Nat → Nat → Nat} {ρ : Nat → Nat → Int32} {w : Nat} (hw : w < 6) (F : ft_WF σ w) (h1 : (σ 26) w = 1) (H : ∀ σ' ρ', ft_Stp σ ρ w σ' ρ' → post (ft_cv σ' ρ')) : wpX_carryOn post (ft_cv σ ρ) (nI w) := by
  obtain ⟨f1, f2, f3, f4, f5, f6, f7, f8, f9, f10, f11, f12⟩ := F
  obtain ⟨g1, g2, g3, g4, g5⟩ := f10 h1
  have ht := f6 (by omega)
  have hl := f11 _ ht
  have HF : (σ 9) ((σ 27) w) ≤ (σ 29) w → ∀ σ' ρ', ft_Fin σ ρ w ((σ 27) w) σ' ρ' → post (ft_cv σ' ρ') := fun hh σ' ρ' h => H σ' ρ' (Or.inr (Or.inr (Or.inl ⟨h1, hh, h⟩)))
  have HL : (σ 29) w < (σ 9) ((σ 27) w) → ∀ σ' ρ', ft_Loc σ ρ w ((σ 27) w) σ' ρ' → post (ft_cv σ' ρ') := fun hh σ' ρ' h => H σ' ρ' (Or.inr (Or.inr (Or.inr ⟨h1, hh, Or.inl h⟩)))
  have HG : (σ 29) w < (σ 9) ((σ 27) w) → ∀ σ' ρ', ft_Log σ ρ w ((σ 27) w) σ' ρ' → post (ft_cv σ' ρ') := fun hh σ' ρ' h => H σ' ρ' (Or.inr (Or.inr (Or.inr ⟨h1, hh, Or.inr (Or.inl h)⟩)))
  have HW : (σ 29) w < (σ 9) ((σ 27) w) → ∀ σ' ρ', ft_Wai σ ρ w ((σ 27) w) σ' ρ' → post (ft_cv σ' ρ') := fun hh σ' ρ' h => H σ' ρ' (Or.inr (Or.inr (Or.inr ⟨h1, hh, Or.inr (Or.inr h)⟩)))
  clear H
  generalize et : (σ 27) w = t at *
  obtain ⟨P, ep⟩ : ∃ P, P = 12 * t + (σ 29) w := ⟨_, rfl⟩
  have hP : (σ 29) w < (σ 9) t → P < 96 := by omega
  have hpl : (σ 29) w < (σ 9) t → (σ 11) P ≤ 15 := fun hh => (f12 P (hP hh)).2
  have hop : (σ 29) w < (σ 9) t → (σ 10) P ≤ 11 := fun hh => (f12 P (hP hh)).1
  have ha4 : (σ 29) w < (σ 9) t → (σ 11) P / 4 < 4 := fun hh => by have := hpl hh; omega
  have hb4 : (σ 11) P % 4 < 4 := by omega
  refine xw_carryOn (t := t) (p := P) (o := (σ 10) P) (a := 4 * w + (σ 11) P / 4) (b := 4 * w + (σ 11) P % 4) hw ht et g1 g2 f2 f3 hl g3 g4 g5 f4 ep rfl rfl rfl hop hpl ?_ ?_ ?_ ?_ ?_ ?_ ?_ ?_ ?_ ?_ ?_ ?_ ?_ ?_ ?_ ?_ ?_ ?_
  · exact fun a b => HF a _ _ ⟨rfl, Or.inl ⟨b, rfl⟩⟩
  · exact fun a b c => HF a _ _ ⟨rfl, Or.inr (Or.inl ⟨b, c, rfl⟩)⟩
  · exact fun a b c => HF a _ _ ⟨rfl, Or.inr (Or.inr ⟨b, c, rfl⟩)⟩
  · intro hh eo
    have := ft_locI (HL hh) ((σ 29) w + 1) ((σ 31) w) ((σ 33) w) ((σ 24) t) (upd ((ρ 30)) (4 * w + (σ 11) P / 4) ((ρ 12) P)) ((ρ 32)) ((ρ 25)) (by omega) (by omega) g2 g1 (by omega) (by omega) (ft_upO (by omega) (by have := ha4 hh; omega)) (fun _ _ => rfl) (fun _ _ => rfl) (fun g m hm => by rw [mc_stE hm ep eo]; exact mc_x0 hm)
    rw [ft_unId, ft_unId, ft_unId] at this
    exact this
  · intro hh eo
    have := ft_locI (HL hh) ((σ 29) w + 1) ((σ 31) w) ((σ 33) w) ((σ 24) t) (upd ((ρ 30)) (4 * w + (σ 11) P / 4) ((ρ 30) (4 * w + (σ 11) P / 4) + (ρ 30) (4 * w + (σ 11) P % 4))) ((ρ 32)) ((ρ 25)) (by omega) (by omega) g2 g1 (by omega) (by omega) (ft_upO (by omega) (by have := ha4 hh; omega)) (fun _ _ => rfl) (fun _ _ => rfl) (fun g m hm => by rw [mc_stE hm ep eo]; exact mc_x1 (ha4 hh) hb4 hm)
    rw [ft_unId, ft_unId, ft_unId] at this
    exact this
  · intro hh eo
    have := ft_locI (HL hh) ((σ 29) w + 1) ((σ 31) w) ((σ 33) w) ((σ 24) t) (upd ((ρ 30)) (4 * w + (σ 11) P / 4) ((ρ 30) (4 * w + (σ 11) P / 4) - (ρ 30) (4 * w + (σ 11) P % 4))) ((ρ 32)) ((ρ 25)) (by omega) (by omega) g2 g1 (by omega) (by omega) (ft_upO (by omega) (by have := ha4 hh; omega)) (fun _ _ => rfl) (fun _ _ => rfl) (fun g m hm => by rw [mc_stE hm ep eo]; exact mc_x2 (ha4 hh) hb4 hm)
    rw [ft_unId, ft_unId, ft_unId] at this
    exact this
  · intro hh eo
    have := ft_locI (HL hh) ((σ 29) w + 1) ((σ 31) w) ((σ 33) w) ((σ 24) t) (upd ((ρ 30)) (4 * w + (σ 11) P / 4) ((ρ 30) (4 * w + (σ 11) P / 4) * (ρ 30) (4 * w + (σ 11) P % 4))) ((ρ 32)) ((ρ 25)) (by omega) (by omega) g2 g1 (by omega) (by omega) (ft_upO (by omega) (by have := ha4 hh; omega)) (fun _ _ => rfl) (fun _ _ => rfl) (fun g m hm => by rw [mc_stE hm ep eo]; exact mc_x5 (ha4 hh) hb4 hm)
    rw [ft_unId, ft_unId, ft_unId] at this
    exact this
  · intro hh c hc hb
    have := ft_locI (HL hh) ((σ 29) w + 1) ((σ 31) w) ((σ 33) w) ((σ 24) t) (upd ((ρ 30)) (4 * w + (σ 11) P / 4) ((ρ 32) (16 * w + c))) ((ρ 32)) ((ρ 25)) (by omega) (by omega) g2 g1 (by omega) (by omega) (ft_upO (by omega) (by have := ha4 hh; omega)) (fun _ _ => rfl) (fun _ _ => rfl) (fun g m hm => by
      rcases hc with ⟨eo, ec⟩ | ⟨eo, ec⟩
      · rw [mc_stE hm ep eo]
        exact mc_x3 hm (by rw [← ec, if_pos hb])
      · rw [mc_stE hm ep eo]
        exact mc_x9 hb4 hm (by rw [← ec, if_pos hb]))
    rw [ft_unId, ft_unId, ft_unId] at this
    exact this
  · intro hh c hc hb e0
    refine HG hh _ _ ⟨c, 0, 0, _, _, rfl, rfl, ?_, e0, Or.inl ⟨rfl, rfl, rfl⟩, ft_upO (by omega) (by have := ha4 hh; omega), ?_⟩
    · rcases hc with ⟨_, ec⟩ | ⟨_, ec⟩ <;> (rw [ec]; exact mc_cL _)
    · intro g m hm hx
      rcases hc with ⟨eo, ec⟩ | ⟨eo, ec⟩
      · rw [mc_stE hm ep eo]
        exact mc_x3 hm (by rw [← ec, if_neg hb, hx])
      · rw [mc_stE hm ep eo]
        exact mc_x9 hb4 hm (by rw [← ec, if_neg hb, hx])
  · intro hh c hc hb f hf e0 es
    refine HG hh _ _ ⟨c, f + 1, _, _, _, rfl, rfl, ?_, e0, Or.inr ⟨f, rfl, hf, es, rfl, rfl⟩, ft_upO (by omega) (by have := ha4 hh; omega), ?_⟩
    · rcases hc with ⟨_, ec⟩ | ⟨_, ec⟩ <;> (rw [ec]; exact mc_cL _)
    · intro g m hm hx
      rcases hc with ⟨eo, ec⟩ | ⟨eo, ec⟩
      · rw [mc_stE hm ep eo]
        exact mc_x3 hm (by rw [← ec, if_neg hb, hx])
      · rw [mc_stE hm ep eo]
        exact mc_x9 hb4 hm (by rw [← ec, if_neg hb, hx])
  · intro hh c hc hb f hf e0 es
    refine HW hh _ _ ⟨f, hf, es, ⟨c, ?_, e0⟩, rfl, rfl⟩
    rcases hc with ⟨_, ec⟩ | ⟨_, ec⟩ <;> (rw [ec]; exact mc_cL _)
  · intro hh c hc
    have hc16 : c < 16 := by rcases hc with ⟨_, ec⟩ | ⟨_, ec⟩ <;> (rw [ec]; exact mc_cL _)
    have := ft_locI (HL hh) ((σ 29) w + 1) ((σ 31) w ||| 2 ^ c) ((σ 33) w) ((σ 24) t) ((ρ 30)) (upd ((ρ 32)) (16 * w + c) ((ρ 30) (4 * w + (σ 11) P / 4))) ((ρ 25)) (by omega) (by omega) (ft_orL g2 hc16) g1 (by omega) (by omega) (fun _ _ => rfl) (ft_upO (by omega) (by omega)) (fun _ _ => rfl) (fun g m hm => by
      rcases hc with ⟨eo, ec⟩ | ⟨eo, ec⟩
      · rw [mc_stE hm ep eo, ec]
        exact mc_x4 (ha4 hh) hm
      · rw [mc_stE hm ep eo, ec]
        exact mc_x10 (ha4 hh) hb4 hm)
    rw [ft_unId ((σ 33)), ft_unId ((σ 24))] at this
    exact this
  · intro hh eo
    have := ft_locI (HL hh) ((σ 29) w + 1) ((σ 31) w) ((σ 33) w) ((σ 24) t + 1) ((ρ 30)) ((ρ 32)) (upd ((ρ 25)) (12 * t + (σ 24) t) ((ρ 30) (4 * w + (σ 11) P / 4))) (by omega) (by omega) g2 g1 (by omega) (by omega) (fun _ _ => rfl) (fun _ _ => rfl) (ft_upO (by omega) (by omega)) (fun g m hm => by rw [mc_stE hm ep eo]; exact mc_x8 (ha4 hh) hm)
    rw [ft_unId ((σ 31)), ft_unId ((σ 33))] at this
    exact this
  · intro hh eo hc
    have := ft_locI (HL hh) ((σ 29) w + 1) ((σ 31) w) ((σ 33) w) ((σ 24) t) ((ρ 30)) ((ρ 32)) ((ρ 25)) (by omega) (by omega) g2 g1 (by omega) (by omega) (fun _ _ => rfl) (fun _ _ => rfl) (fun _ _ => rfl) (fun g m hm => by rw [mc_stE hm ep eo]; exact mc_x6a (ha4 hh) hb4 hc hm)
    rw [ft_unId, ft_unId, ft_unId] at this
    exact this
  · intro hh eo hc
    have := ft_locI (HL hh) ((σ 29) w + 2) ((σ 31) w) ((σ 33) w) ((σ 24) t) ((ρ 30)) ((ρ 32)) ((ρ 25)) (by omega) (by omega) g2 g1 (by omega) (by omega) (fun _ _ => rfl) (fun _ _ => rfl) (fun _ _ => rfl) (fun g m hm => by rw [mc_stE hm ep eo]; exact mc_x6b (ha4 hh) hb4 hc hm)
    rw [ft_unId, ft_unId, ft_unId] at this
    exact this
  · intro hh eo hc
    have := ft_locI (HL hh) ((σ 29) w + 1) ((σ 31) w) ((σ 33) w) ((σ 24) t) ((ρ 30)) ((ρ 32)) ((ρ 25)) (by omega) (by omega) g2 g1 (by omega) (by omega) (fun _ _ => rfl) (fun _ _ => rfl) (fun _ _ => rfl) (fun g m hm => by rw [mc_stE hm ep eo]; exact mc_x7a (ha4 hh) hc hm)
    rw [ft_unId, ft_unId, ft_unId] at this
    exact this
  · intro hh eo hc
    have := ft_locI (HL hh) 12 ((σ 31) w) 1 ((σ 24) t) ((ρ 30)) ((ρ 32)) ((ρ 25)) (by omega) (by omega) g2 (by omega) (by omega) (by omega) (fun _ _ => rfl) (fun _ _ => rfl) (fun _ _ => rfl) (fun g m hm => by rw [mc_stE hm ep eo]; exact mc_x7b (ha4 hh) hc hm)
    rw [ft_unId ((σ 31)), ft_unId ((σ 24))] at this
    exact this
  · intro hh eo
    have := ft_locI (HL hh) 12 ((σ 31) w) ((σ 33) w) ((σ 24) t) ((ρ 30)) ((ρ 32)) ((ρ 25)) (by omega) (by omega) g2 g1 (by omega) (by omega) (fun _ _ => rfl) (fun _ _ => rfl) (fun _ _ => rfl) (fun g m hm => by rw [mc_stE hm ep eo]; exact mc_x11 hm)
    rw [ft_unId, ft_unId, ft_unId] at this
    exact this
theorem xw_step {post : SX → Prop} {σ : Nat → Nat → Nat} {ρ : Nat → Nat → Int32} {w : Nat} (hw : w < 6) (F : ft_WF σ w) (H : ∀ σ' ρ', ft_Stp σ ρ w σ' ρ' → post (ft_cv σ' ρ')) : wpX_step post (ft_cv σ ρ) (nI w) := by
  unfold wpX_step ft_cv
  refine And.intro (ft_in hw) (pk_eq ((σ 26) w) 0 (fun e => ?_) (fun e0 => And.intro (ft_in hw) (pk_eq ((σ 26) w) 2 (fun e => ?_) (fun e2 => ?_) (ft_rd (by omega)) rfl (by have := F.2.2.2.2.1; omega) (by omega))) (ft_rd (by omega)) rfl (by have := F.2.2.2.2.1; omega) (by omega))
  · obtain ⟨f1, f2, f3, f4, f5, f6, f7, f8, f9, f10, f11, f12⟩ := F
    exact xw_takeTask (σ := σ) (ρ := ρ) hw f1 f2 f3 f4
      (fun a b => H _ _ (Or.inl ⟨e, Or.inl ⟨b, by omega, rfl, rfl⟩⟩))
      (fun a b c => H _ _ (Or.inl ⟨e, Or.inr (Or.inr (Or.inr (Or.inl ⟨by omega, b, c, rfl, rfl⟩)))⟩))
      (fun a b c => H _ _ (Or.inl ⟨e, Or.inr (Or.inr (Or.inr (Or.inr ⟨by omega, b, c, rfl, rfl⟩)))⟩))
      (fun a b c => H _ _ (Or.inl ⟨e, Or.inr (Or.inl ⟨a, b, c, rfl, rfl⟩)⟩))
      (fun a b c => H _ _ (Or.inl ⟨e, Or.inr (Or.inr (Or.inl ⟨a, b, c, rfl, rfl⟩))⟩))
  · obtain ⟨f1, f2, f3, f4, f5, f6, f7, f8, f9, f10, f11, f12⟩ := F
    exact xw_checkNow (σ := σ) (ρ := ρ) hw (f6 e0) rfl f2 f3 (f7 _ (f6 e0)) (f8 _ (f6 e0)) (f9 e0)
      (fun a b c => H _ _ (Or.inr (Or.inl ⟨e, Or.inl ⟨a, b, c, rfl, rfl⟩⟩)))
      (fun a b c => H _ _ (Or.inr (Or.inl ⟨e, Or.inr ⟨Or.inr c, rfl, rfl⟩⟩)))
      (fun a => H _ _ (Or.inr (Or.inl ⟨e, Or.inr ⟨Or.inl a, rfl, rfl⟩⟩)))
  · exact xw_carry (σ := σ) (ρ := ρ) hw F (by have := F.2.2.2.2.1; omega) (fun σ' ρ' h => H σ' ρ' h)
end
section
/-! X: nextWorker, isAllDone, commit, start, the count of those that are done -/
theorem ft_nIx (x : Int32) : x = nI x.toBitVec.toNat := by
  apply Int32.toBitVec_inj.1
  show x.toBitVec = BitVec.ofNat 32 x.toBitVec.toNat
  simp
theorem xw_nextWorker {post : Int32 → SX → Prop} {σ : Nat → Nat → Nat} {ρ : Nat → Nat → Int32} (h1 : 1 ≤ (σ 2 0)) (h6 : (σ 2 0) ≤ 6) (hc : (σ 6 0) < 2147483647)
    (H : ∀ w x, w < (σ 2 0) → (((σ 6 0) + 1) % 4 = 0 → w = ((σ 6 0) + 1) / 4 % (σ 2 0)) → post (nI w) (ft_cv (ft_sc σ 6 ((σ 6 0) + 1)) (ft_ra ρ 5 (fun _ => x)))) : wpX_nextWorker post (ft_cv σ ρ) := by
  unfold wpX_nextWorker ft_cv
  have hw0 : ¬ nI ((σ 2 0)) = 0 := nI_ne0 (by omega) (by omega)
  refine nm_r (nI_1 _) (nm_e (And.intro hw0 ?_))
  generalize hX : ((((ρ 5 0) * 1103515245 + 12345).toUInt32 >>> ((16 : Int32).toUInt32 &&& Int32.toUInt32 31)).toInt32) = X
  have hq : X.toBitVec.toNat < 65536 := by
    rw [← hX, pk_ushr _ _ 16 (by decide)]
    have := ((ρ 5 0) * 1103515245 + 12345).toBitVec.isLt
    omega
  rw [ft_nIx X]
  generalize X.toBitVec.toNat = q at hq
  refine nm_r (pk_rem (by omega) (by omega) (by omega)) ?_
  refine ek_if (d := ((σ 6 0) + 1) % 4 = 0) ?_ (fun e => ?_) (fun e => ?_)
  · rw [pk_andN (by omega) 2 (by decide)]
    exact nI_eq (b := 0) (by omega) (by omega)
  · refine And.intro hw0 ?_
    rw [pk_shrN (by omega) _ 2 (by decide), pk_rem (by omega) (by omega) (by omega)]
    exact H _ _ (Nat.mod_lt _ (by omega)) (fun _ => rfl)
  · exact H _ _ (Nat.mod_lt _ (by omega)) (fun h => absurd h e)
/-- nothing is left to do -/
def ft_AD (σ : Nat → Nat → Nat) : Prop := (σ 0 0) ≤ (σ 3 0) ∧ (σ 0 0) ≤ (σ 4 0) ∧ ∀ w, w < (σ 2 0) → (σ 26) w = 0
theorem xw_ad26 {post : Int32 → Prop} {σ : Nat → Nat → Nat} {ρ : Nat → Nat → Int32} (h6 : (σ 2 0) ≤ 6) (hb : ∀ w, w < (σ 2 0) → (σ 26) w ≤ 2) (hc : (σ 0 0) ≤ (σ 3 0)) (hk : (σ 0 0) ≤ (σ 4 0)) (h1 : ft_AD σ → post 1) (h0 : ¬ ft_AD σ → post 0) : ∀ k w, w + k = (σ 2 0) → (∀ v, v < w → (σ 26) v = 0) → wX_isAllDone_26 post (nI (σ 0 0)) (nI (σ 1 0)) (nI (σ 2 0)) (nI (σ 3 0)) (nI (σ 4 0)) (ρ 5 0) (nI (σ 6 0)) (ρ 7 0) (ρ 8) (ft_nA (σ 9)) (ft_nA (σ 10)) (ft_nA (σ 11)) (ρ 12) (ρ 13) (ft_nA (σ 14)) (ft_nA (σ 15)) (ft_nA (σ 16)) (ft_nA (σ 17)) (ft_nA (σ 18)) (ft_nA (σ 19)) (ft_nA (σ 20)) (ft_nB (σ 21)) (ft_nA (σ 22)) (ft_nA (σ 23)) (ft_nA (σ 24)) (ρ 25) (ft_nA (σ 26)) (ft_nA (σ 27)) (ft_nA (σ 28)) (ft_nA (σ 29)) (ρ 30) (ft_nA (σ 31)) (ρ 32) (ft_nA (σ 33)) (k + 1) (nI w) := by
  intro k
  induction k with
  | zero =>
    intro w hw hv
    exact br_t (nI_le (by omega) (by omega)) (h1 ⟨hc, hk, fun v hv' => hv v (by omega)⟩)
  | succ k ih =>
    intro w hw hv
    refine br_f (nI_ge (by omega) (by omega)) (And.intro (ft_in (by omega)) (pk_eq ((σ 26) w) 0 (fun e => nm_r (nI_1 w) (ih (w + 1) (by omega) ?_)) (fun e => h0 (fun hh => e (hh.2.2 w (by omega)))) (ft_rd (by omega)) rfl (by have := hb w (by omega); omega) (by omega)))
    intro v hv'
    by_cases hvw : v = w
    · rw [hvw]; exact e
    · exact hv v (by omega)
theorem xw_isAllDone {post : Int32 → Prop} {σ : Nat → Nat → Nat} {ρ : Nat → Nat → Int32} (h6 : (σ 2 0) ≤ 6) (h8 : (σ 0 0) ≤ 8) (hn : (σ 3 0) ≤ 8) (hk : (σ 4 0) ≤ 8) (hb : ∀ w, w < (σ 2 0) → (σ 26) w ≤ 2) (h1 : ft_AD σ → post 1) (h0 : ¬ ft_AD σ → post 0) : wpX_isAllDone post (ft_cv σ ρ) := by
  unfold wpX_isAllDone ft_cv
  refine pk_lt ((σ 3 0)) ((σ 0 0)) (fun h => h0 (fun hh => by have := hh.1; omega)) (fun h => pk_le ((σ 0 0)) ((σ 4 0)) (fun h' => ⟨(σ 2 0) + 1, ?_⟩) (fun h' => h0 (fun hh => by have := hh.2.1; omega)))
  exact xw_ad26 h6 hb h h' h1 h0 ((σ 2 0)) 0 (by omega) (fun v hv => by omega)
/-- what a cell holds by its newest version fr (0: the store) -/
def ft_vl (sto vv : Nat → Int32) (c : Nat) : Nat → Int32
  | 0 => sto c
  | f + 1 => vv (8 * c + f)
def ft_cs (sto vv : Nat → Int32) (wr : Nat → Nat) (n c : Nat) : Nat → Int32 := fun j => if j < c then ft_vl sto vv j (ft_nb wr j n) else sto j
theorem xw_cm7 {post : SX → Prop} {σ : Nat → Nat → Nat} {ρ : Nat → Nat → Int32} (h8 : (σ 0 0) ≤ 8) (h : post (ft_cv σ (ft_ra ρ 8 (ft_cs ((ρ 8)) ((ρ 13)) ((σ 15)) ((σ 0 0)) 16)))) : ∀ k c, c + k = 16 → ∀ A : Nat → Int32, A = ft_cs ((ρ 8)) ((ρ 13)) ((σ 15)) ((σ 0 0)) c → wX_commit_7 post (nI (σ 0 0)) (nI (σ 1 0)) (nI (σ 2 0)) (nI (σ 3 0)) (nI (σ 4 0)) (ρ 5 0) (nI (σ 6 0)) (ρ 7 0) (k + 1) (nI c) (A) (ft_nA (σ 9)) (ft_nA (σ 10)) (ft_nA (σ 11)) (ρ 12) (ρ 13) (ft_nA (σ 14)) (ft_nA (σ 15)) (ft_nA (σ 16)) (ft_nA (σ 17)) (ft_nA (σ 18)) (ft_nA (σ 19)) (ft_nA (σ 20)) (ft_nB (σ 21)) (ft_nA (σ 22)) (ft_nA (σ 23)) (ft_nA (σ 24)) (ρ 25) (ft_nA (σ 26)) (ft_nA (σ 27)) (ft_nA (σ 28)) (ft_nA (σ 29)) (ρ 30) (ft_nA (σ 31)) (ρ 32) (ft_nA (σ 33)) := by
  intro k
  induction k with
  | zero =>
    intro c hc A eA
    have e : c = 16 := by omega
    subst e eA
    exact br_t (nI_le (a := 16) (by omega) (by omega)) h
  | succ k ih =>
    intro c hc A eA
    refine br_f (nI_ge (b := 16) (by omega) (by decide)) (xw_newestBefore (σ := σ) (ρ := ft_ra ρ 8 A) (by omega) h8 (fun e0 => ?_) (fun f hf ef => ?_))
    · refine br_t (by decide) (nm_r (nI_1 c) (ih (c + 1) (by omega) _ ?_))
      rw [eA]
      funext j
      unfold ft_cs
      by_cases hj : j = c
      · subst hj
        rw [if_neg (by omega), if_pos (by omega), e0]
        rfl
      · by_cases hj2 : j < c
        · rw [if_pos hj2, if_pos (by omega)]
        · rw [if_neg hj2, if_neg (by omega)]
    · refine br_f (nI_pos (by omega)) (And.intro (ft_inE (ft_l8 c f) (by omega)) (And.intro (ft_in (by omega)) (nm_r (ft_wR (by omega) (ft_rRI (ft_l8 c f) (by omega))) (nm_r (nI_1 c) (ih (c + 1) (by omega) _ ?_)))))
      rw [eA]
      funext j
      by_cases hj : j = c
      · subst hj
        rw [pk_us]
        unfold ft_cs
        rw [if_pos (by omega), ef]
        rfl
      · rw [pk_un hj]
        unfold ft_cs
        by_cases hj2 : j < c
        · rw [if_pos hj2, if_pos (by omega)]
        · rw [if_neg hj2, if_neg (by omega)]
theorem xw_commit {post : SX → Prop} {σ : Nat → Nat → Nat} {ρ : Nat → Nat → Int32} (h8 : (σ 0 0) ≤ 8) (h : post (ft_cv (ft_sc σ 1 2) (ft_ra ρ 8 (ft_cs ((ρ 8)) ((ρ 13)) ((σ 15)) ((σ 0 0)) 16)))) : wpX_commit post (ft_cv σ ρ) := by
  unfold wpX_commit ft_cv
  refine ⟨17, xw_cm7 (σ := ft_sc σ 1 2) (ρ := ρ) h8 h 16 0 rfl ((ρ 8)) ?_⟩
  funext j
  unfold ft_cs
  rw [if_neg (by omega)]
/-- how many of the first n didn't fail -/
def ft_ct (fl : Nat → Nat) : Nat → Nat
  | 0 => 0
  | n + 1 => ft_ct fl n + (if fl n = 0 then 1 else 0)
theorem xw_run71 {post : Int32 → SX → Prop} {σ : Nat → Nat → Nat} {ρ : Nat → Nat → Int32} (h8 : (σ 0 0) ≤ 8) (hf : ∀ t, t < 8 → (σ 23) t ≤ 1) (h : post (nI (ft_ct ((σ 23)) ((σ 0 0)))) (ft_cv σ ρ)) : ∀ k t, t + k = (σ 0 0) → wX_run_71 post (nI (σ 0 0)) (nI (σ 1 0)) (nI (σ 2 0)) (nI (σ 3 0)) (nI (σ 4 0)) (ρ 5 0) (nI (σ 6 0)) (ρ 7 0) (ρ 8) (ft_nA (σ 9)) (ft_nA (σ 10)) (ft_nA (σ 11)) (ρ 12) (ρ 13) (ft_nA (σ 14)) (ft_nA (σ 15)) (ft_nA (σ 16)) (ft_nA (σ 17)) (ft_nA (σ 18)) (ft_nA (σ 19)) (ft_nA (σ 20)) (ft_nB (σ 21)) (ft_nA (σ 22)) (ft_nA (σ 23)) (ft_nA (σ 24)) (ρ 25) (ft_nA (σ 26)) (ft_nA (σ 27)) (ft_nA (σ 28)) (ft_nA (σ 29)) (ρ 30) (ft_nA (σ 31)) (ρ 32) (ft_nA (σ 33)) (k + 1) (nI (ft_ct ((σ 23)) t)) (nI t) := by
  intro k
  induction k with
  | zero =>
    intro t ht
    have e : t = (σ 0 0) := by omega
    subst e
    exact br_t (nI_le (by omega) (by omega)) h
  | succ k ih =>
    intro t ht
    have ih' := ih (t + 1) (by omega)
    refine br_f (nI_ge (by omega) (by omega)) (And.intro (ft_in (by omega)) (pk_eq ((σ 23) t) 0 (fun e => ?_) (fun e => ?_) (ft_rd (by omega)) rfl (by have := hf t (by omega); omega) (by omega)))
    · have e2 : ft_ct ((σ 23)) (t + 1) = ft_ct ((σ 23)) t + 1 := by
        show ft_ct ((σ 23)) t + (if (σ 23) t = 0 then 1 else 0) = _
        rw [if_pos e]
      rw [e2] at ih'
      exact nm_r (nI_1 _) (nm_r (nI_1 t) ih')
    · have e2 : ft_ct ((σ 23)) (t + 1) = ft_ct ((σ 23)) t := by
        show ft_ct ((σ 23)) t + (if (σ 23) t = 0 then 1 else 0) = _
        rw [if_neg e, Nat.add_zero]
      rw [e2] at ih'
      exact nm_r (Int32.add_zero _) (nm_r (nI_1 t) ih')
/-! start -/
def ft_z (f : Nat → Nat) (n : Nat) : Nat → Nat := fun j => if j < n then 0 else f j
theorem ft_z0 (f : Nat → Nat) : ft_z f 0 = f := by
  funext j
  unfold ft_z
  rw [if_neg (by omega)]
theorem ft_zS (f : Nat → Nat) (i : Nat) : ft_un (ft_z f i) i 0 = ft_z f (i + 1) := by
  funext j
  unfold ft_un ft_z
  by_cases h1 : j = i
  · rw [if_pos h1, if_pos (by omega)]
  · rw [if_neg h1]
    exact ft_ifc ⟨fun _ => by omega, fun _ => by omega⟩
theorem xw_st85 {post : SX → Prop} {σ : Nat → Nat → Nat} {ρ : Nat → Nat → Int32} (h : post (ft_cv (ft_sa σ 26 (ft_z ((σ 26)) 6)) ρ)) : ∀ k i, i + k = 6 → ∀ A, A = ft_z ((σ 26)) i → wX_start_85 post (nI (σ 0 0)) (nI (σ 1 0)) (nI (σ 2 0)) (nI (σ 3 0)) (nI (σ 4 0)) (ρ 5 0) (nI (σ 6 0)) (ρ 7 0) (k + 1) (nI i) (ρ 8) (ft_nA (σ 9)) (ft_nA (σ 10)) (ft_nA (σ 11)) (ρ 12) (ρ 13) (ft_nA (σ 14)) (ft_nA (σ 15)) (ft_nA (σ 16)) (ft_nA (σ 17)) (ft_nA (σ 18)) (ft_nA (σ 19)) (ft_nA (σ 20)) (ft_nB (σ 21)) (ft_nA (σ 22)) (ft_nA (σ 23)) (ft_nA (σ 24)) (ρ 25) (ft_nA A) (ft_nA (σ 27)) (ft_nA (σ 28)) (ft_nA (σ 29)) (ρ 30) (ft_nA (σ 31)) (ρ 32) (ft_nA (σ 33)) := by
  intro k
  induction k with
  | zero =>
    intro i hi A eA
    have e : i = 6 := by omega
    subst e eA
    exact br_t (nI_le (a := 6) (by omega) (by omega)) h
  | succ k ih =>
    intro i hi A eA
    exact br_f (nI_ge (b := 6) (by omega) (by decide)) (And.intro (ft_in (by omega)) (nm_r (ft_wr (v := 0) (by omega)) (nm_r (nI_1 i) (ih (i + 1) (by omega) _ (by rw [eA]; exact ft_zS _ _)))))
def ft_s8 (σ : Nat → Nat → Nat) : Nat → Nat → Nat := ft_sa (ft_sa (ft_sa (ft_sa (ft_sa (ft_sa (ft_sa σ 16 (ft_z ((σ 16)) 8)) 17 (ft_z ((σ 17)) 8)) 18 (ft_z ((σ 18)) 8)) 19 (ft_z ((σ 19)) 8)) 15 (ft_z ((σ 15)) 8)) 24 (ft_z ((σ 24)) 8)) 23 (ft_z ((σ 23)) 8)
theorem xw_st22 {post : SX → Prop} {σ : Nat → Nat → Nat} {ρ : Nat → Nat → Int32} (h : post (ft_cv (ft_sa (ft_s8 σ) 26 (ft_z ((σ 26)) 6)) ρ)) : ∀ k i, i + k = 8 → ∀ A B C D E F G, A = ft_z ((σ 16)) i → B = ft_z ((σ 17)) i → C = ft_z ((σ 18)) i → D = ft_z ((σ 19)) i → E = ft_z ((σ 15)) i → F = ft_z ((σ 24)) i → G = ft_z ((σ 23)) i → wX_start_22 post (nI (σ 0 0)) (nI (σ 1 0)) (nI (σ 2 0)) (nI (σ 3 0)) (nI (σ 4 0)) (ρ 5 0) (nI (σ 6 0)) (ρ 7 0) (k + 1) (nI i) (ρ 8) (ft_nA (σ 9)) (ft_nA (σ 10)) (ft_nA (σ 11)) (ρ 12) (ρ 13) (ft_nA (σ 14)) (ft_nA E) (ft_nA A) (ft_nA B) (ft_nA C) (ft_nA D) (ft_nA (σ 20)) (ft_nB (σ 21)) (ft_nA (σ 22)) (ft_nA G) (ft_nA F) (ρ 25) (ft_nA (σ 26)) (ft_nA (σ 27)) (ft_nA (σ 28)) (ft_nA (σ 29)) (ρ 30) (ft_nA (σ 31)) (ρ 32) (ft_nA (σ 33)) := by
  intro k
  induction k with
  | zero =>
    intro i hi A B C D E F G eA eB eC eD eE eF eG
    have e : i = 8 := by omega
    subst e eA eB eC eD eE eF eG
    exact br_t (nI_le (a := 8) (by omega) (by omega)) ⟨7, xw_st85 (σ := ft_s8 σ) (ρ := ρ) h 6 0 rfl _ (ft_z0 _).symm⟩
  | succ k ih =>
    intro i hi A B C D E F G eA eB eC eD eE eF eG
    have i8 : i < 8 := by omega
    have il : i < 2147483648 := by omega
    refine br_f (nI_ge (b := 8) i8 (by decide)) (And.intro (ft_in i8) (nm_r (ft_wr (v := 0) il) (And.intro (ft_in i8) (nm_r (ft_wr (v := 0) il) (And.intro (ft_in i8) (nm_r (ft_wr (v := 0) il) (And.intro (ft_in i8) (nm_r (ft_wr (v := 0) il) (And.intro (ft_in i8) (nm_r (ft_wr (v := 0) il) (And.intro (ft_in i8) (nm_r (ft_wr (v := 0) il) (And.intro (ft_in i8) (nm_r (ft_wr (v := 0) il) (nm_r (nI_1 i) (ih (i + 1) (by omega) _ _ _ _ _ _ _ ?_ ?_ ?_ ?_ ?_ ?_ ?_))))))))))))))))
    · rw [eA]; exact ft_zS _ _
    · rw [eB]; exact ft_zS _ _
    · rw [eC]; exact ft_zS _ _
    · rw [eD]; exact ft_zS _ _
    · rw [eE]; exact ft_zS _ _
    · rw [eF]; exact ft_zS _ _
    · rw [eG]; exact ft_zS _ _
def ft_s0 (σ : Nat → Nat → Nat) : Nat → Nat → Nat := ft_sc (ft_sc (ft_sc (ft_sc σ 1 1) 3 0) 4 0) 6 0
def ft_sta (σ : Nat → Nat → Nat) : Nat → Nat → Nat := ft_sa (ft_s8 (ft_s0 σ)) 26 (ft_z ((σ 26)) 6)
theorem xw_start {post : SX → Prop} {σ : Nat → Nat → Nat} {ρ : Nat → Nat → Int32} (h : post (ft_cv (ft_sta σ) ρ)) : wpX_start post (ft_cv σ ρ) := by
  unfold wpX_start ft_cv
  exact ⟨9, xw_st22 (σ := ft_s0 σ) (ρ := ρ) h 8 0 rfl _ _ _ _ _ _ _ (ft_z0 _).symm (ft_z0 _).symm (ft_z0 _).symm (ft_z0 _).symm (ft_z0 _).symm (ft_z0 _).symm (ft_z0 _).symm⟩
end
section
/-! the invariants while a block runs -/
def iv_B (cnt wk : Nat) (ln op pl vt rt : Nat → Nat) : Prop := cnt ≤ 8 ∧ 1 ≤ wk ∧ wk ≤ 6 ∧ (∀ j, j < 8 → ln j ≤ 12) ∧ (∀ j, j < 96 → op j ≤ 11 ∧ pl j ≤ 15) ∧ (∀ j, j < 128 → vt j < 2147483648) ∧ (∀ j, j < 96 → rt j < 2147483648)
def iv_1 (cnt nc nk : Nat) : Prop := nc ≤ cnt ∧ nk ≤ cnt
def iv_2 (q clk : Nat) (st tu wr rc oc fl : Nat → Nat) : Prop := ∀ j, j < 8 → st j < 4 ∧ tu j + q ≤ clk ∧ wr j < 65536 ∧ rc j ≤ 12 ∧ oc j ≤ 12 ∧ fl j ≤ 1
def iv_3 (cnt wk : Nat) (st tu tk tf tt : Nat → Nat) : Prop := ∀ w, w < wk → tk w ≤ 2 ∧ (tk w ≠ 0 → tf w < cnt ∧ tt w ≤ tu (tf w)) ∧ (tk w = 1 → st (tf w) = 1 ∧ tt w = tu (tf w))
def iv_4 (wk : Nat) (tk tf : Nat → Nat) : Prop := ∀ w w', w < wk → w' < wk → tk w = 1 → tk w' = 1 → tf w = tf w' → w = w'
def iv_5 (cnt wk : Nat) (st tk tf : Nat → Nat) : Prop := ∀ t, t < cnt → st t = 1 → ∃ w, w < wk ∧ tk w = 1 ∧ tf w = t
def iv_6 (wk : Nat) (tk tf ps ss fg oc rc : Nat → Nat) : Prop := ∀ w, w < wk → tk w = 1 → ps w ≤ 13 ∧ ss w < 65536 ∧ fg w ≤ 1 ∧ oc (tf w) ≤ ps w ∧ rc (tf w) ≤ ps w
def iv_7 (cnt : Nat) (st wt : Nat → Nat) : Prop := (∀ b t, b < 8 → t < 8 → (wt b).testBit t = true → b < t ∧ t < cnt ∧ st t = 3 ∧ st b ≠ 2) ∧ (∀ t, t < cnt → st t = 3 → ∃ b, b < t ∧ (wt b).testBit t = true) ∧ (∀ b b' t, b < 8 → b' < 8 → t < 8 → (wt b).testBit t = true → (wt b').testBit t = true → b = b')
def iv_8 (cnt nc : Nat) (st : Nat → Nat) : Prop := ∀ t, t < cnt → st t = 0 → nc ≤ t
def iv_9 (E : Nat → Prop) (cnt wk nk : Nat) (st tu tk tf tt : Nat → Nat) (RH : Nat → Prop) : Prop := ∀ t, t < cnt → st t = 2 → E t ∨ nk ≤ t ∨ (∃ w, w < wk ∧ tk w = 2 ∧ tf w = t ∧ tt w = tu t) ∨ RH t
def iv_10 (st tu rc rl rf rt : Nat → Nat) : Prop := ∀ t k, t < 8 → k < rc t → rl (12 * t + k) < 16 ∧ rf (12 * t + k) ≤ t ∧ (∀ f, rf (12 * t + k) = f + 1 → rt (12 * t + k) ≤ tu f ∧ (rt (12 * t + k) = tu f → st f = 2))
def iv_11 (cnt : Nat) (st tu wr vt : Nat → Nat) : Prop := ∀ t c, t < cnt → st t = 2 → c < 16 → (wr t).testBit c = true → vt (8 * c + t) = tu t
/-- g answers as the log of t has it, and the log is of versions that stand -/
def iv_Con (st tu rc rl rf rt : Nat → Nat) (sto vv : Nat → Int32) (t : Nat) (g : Nat → Int32) : Prop := ∀ k, k < rc t → (rf (12 * t + k) = 0 ∧ g (rl (12 * t + k)) = sto (rl (12 * t + k))) ∨ (∃ f, rf (12 * t + k) = f + 1 ∧ st f = 2 ∧ rt (12 * t + k) = tu f ∧ g (rl (12 * t + k)) = vv (8 * rl (12 * t + k) + f))
def iv_12 (wk : Nat) (ln op pl : Nat → Nat) (nu : Nat → Int32) (st tu rc rl rf rt : Nat → Nat) (sto vv : Nat → Int32) (tk tf ps ss fg oc : Nat → Nat) (rg sv ou : Nat → Int32) : Prop := ∀ w, w < wk → tk w = 1 → ∀ g, iv_Con st tu rc rl rf rt sto vv (tf w) g → ∃ k, mc_R (ps w) (ss w) (fg w) (oc (tf w)) rg sv ou w (tf w) g (mc_run ln op pl nu (tf w) g k)
/-- what came out of t is what the machine at its end has -/
def iv_Res (wr fl oc : Nat → Nat) (vv ou : Nat → Int32) (t : Nat) (g : Nat → Int32) (m : mc_M) : Prop := fl t = m.2.2.1 ∧ wr t = (if m.2.2.1 = 0 then m.2.1 else 0) ∧ oc t = m.2.2.2.1 ∧ (∀ k, k < oc t → ou (12 * t + k) = m.2.2.2.2.2.2 k) ∧ (∀ c, c < 16 → m.2.2.1 = 0 → m.2.2.2.2.2.1 c = if m.2.1.testBit c = true then vv (8 * c + t) else g c)
def iv_13 (cnt : Nat) (ln op pl : Nat → Nat) (nu : Nat → Int32) (st tu rc rl rf rt : Nat → Nat) (sto vv : Nat → Int32) (wr fl oc : Nat → Nat) (ou : Nat → Int32) : Prop := ∀ t, t < cnt → st t = 2 → ∀ g, iv_Con st tu rc rl rf rt sto vv t g → iv_Res wr fl oc vv ou t g (mc_run ln op pl nu t g 12)
def iv_I (q : Nat) (E : Nat → Prop) (σ : Nat → Nat → Nat) (ρ : Nat → Nat → Int32) : Prop :=
  iv_B ((σ 0 0)) ((σ 2 0)) ((σ 9)) ((σ 10)) ((σ 11)) ((σ 14)) ((σ 22))
  ∧ iv_1 ((σ 0 0)) ((σ 3 0)) ((σ 4 0))
  ∧ iv_2 q ((σ 6 0)) ((σ 16)) ((σ 17)) ((σ 15)) ((σ 19)) ((σ 24)) ((σ 23))
  ∧ iv_3 ((σ 0 0)) ((σ 2 0)) ((σ 16)) ((σ 17)) ((σ 26)) ((σ 27)) ((σ 28))
  ∧ iv_4 ((σ 2 0)) ((σ 26)) ((σ 27))
  ∧ iv_5 ((σ 0 0)) ((σ 2 0)) ((σ 16)) ((σ 26)) ((σ 27))
  ∧ iv_6 ((σ 2 0)) ((σ 26)) ((σ 27)) ((σ 29)) ((σ 31)) ((σ 33)) ((σ 24)) ((σ 19))
  ∧ iv_7 ((σ 0 0)) ((σ 16)) ((σ 18))
  ∧ iv_8 ((σ 0 0)) ((σ 3 0)) ((σ 16))
  ∧ iv_9 E ((σ 0 0)) ((σ 2 0)) ((σ 4 0)) ((σ 16)) ((σ 17)) ((σ 26)) ((σ 27)) ((σ 28)) (ft_RH ((σ 15)) ((σ 16)) ((σ 14)) ((σ 19)) ((σ 20)) ((σ 21)) ((σ 22)))
  ∧ iv_10 ((σ 16)) ((σ 17)) ((σ 19)) ((σ 20)) ((σ 21)) ((σ 22))
  ∧ iv_11 ((σ 0 0)) ((σ 16)) ((σ 17)) ((σ 15)) ((σ 14))
  ∧ iv_12 ((σ 2 0)) ((σ 9)) ((σ 10)) ((σ 11)) ((ρ 12)) ((σ 16)) ((σ 17)) ((σ 19)) ((σ 20)) ((σ 21)) ((σ 22)) ((ρ 8)) ((ρ 13)) ((σ 26)) ((σ 27)) ((σ 29)) ((σ 31)) ((σ 33)) ((σ 24)) ((ρ 30)) ((ρ 32)) ((ρ 25))
  ∧ iv_13 ((σ 0 0)) ((σ 9)) ((σ 10)) ((σ 11)) ((ρ 12)) ((σ 16)) ((σ 17)) ((σ 19)) ((σ 20)) ((σ 21)) ((σ 22)) ((ρ 8)) ((ρ 13)) ((σ 15)) ((σ 23)) ((σ 24)) ((ρ 25))
def iv_N : Nat → Prop := fun _ => False
/-! workers other than w stay; w carries nothing out -/
section
variable {cnt wk w : Nat} {st tu tk tf tt tk' tf' tt' ps ss fg oc rc : Nat → Nat}
theorem iw_4 (h : iv_4 wk tk tf) (a : ∀ v, v ≠ w → tk' v = tk v) (b : ∀ v, v ≠ w → tf' v = tf v) (c : tk' w ≠ 1) : iv_4 wk tk' tf' := by
  unfold iv_4 at *
  grind
theorem iw_5 (h : iv_5 cnt wk st tk tf) (a : ∀ v, v ≠ w → tk' v = tk v) (b : ∀ v, v ≠ w → tf' v = tf v) (c : tk w ≠ 1) : iv_5 cnt wk st tk' tf' := by
  unfold iv_5 at *
  grind
theorem iw_6 (h : iv_6 wk tk tf ps ss fg oc rc) (a : ∀ v, v ≠ w → tk' v = tk v) (b : ∀ v, v ≠ w → tf' v = tf v) (c : tk' w ≠ 1) : iv_6 wk tk' tf' ps ss fg oc rc := by
  unfold iv_6 at *
  grind
theorem iw_3 (h : iv_3 cnt wk st tu tk tf tt) (a : ∀ v, v ≠ w → tk' v = tk v) (b : ∀ v, v ≠ w → tf' v = tf v) (b2 : ∀ v, v ≠ w → tt' v = tt v) (c : tk' w = 0 ∨ (tk' w = 2 ∧ tf' w < cnt ∧ tt' w ≤ tu (tf' w))) : iv_3 cnt wk st tu tk' tf' tt' := by
  unfold iv_3 at *
  grind
theorem iw_12 {ln op pl rl rf rt : Nat → Nat} {nu sto vv rg sv ou : Nat → Int32} (h : iv_12 wk ln op pl nu st tu rc rl rf rt sto vv tk tf ps ss fg oc rg sv ou) (a : ∀ v, v ≠ w → tk' v = tk v) (b : ∀ v, v ≠ w → tf' v = tf v) (c : tk' w ≠ 1) : iv_12 wk ln op pl nu st tu rc rl rf rt sto vv tk' tf' ps ss fg oc rg sv ou := by
  intro v hv h1
  have hvw : v ≠ w := fun e => c (e ▸ h1)
  rw [a v hvw] at h1
  rw [b v hvw]
  exact h v hv h1
end
end
section
/-! frames of readsHold and of what a log says -/
theorem ir_fr {wr st vt rc rl rf rt wr' st' vt' : Nat → Nat} {t : Nat} (h : ft_RH wr st vt rc rl rf rt t) (a : ∀ j, j < t → wr' j = wr j) (b : ∀ j, j < t → st j = 2 → st' j = 2) (c : ∀ j c, j < t → c < 16 → vt' (8 * c + j) = vt (8 * c + j)) (d : ∀ k, k < rc t → rl (12 * t + k) < 16 ∧ rf (12 * t + k) ≤ t) : ft_RH wr' st' vt' rc rl rf rt t := by
  intro k hk
  obtain ⟨h1, h2⟩ := h k hk
  obtain ⟨d1, d2⟩ := d k hk
  refine ⟨by rw [ft_nb_congr t a, h1], ?_⟩
  intro f hf
  obtain ⟨e1, e2⟩ := h2 f hf
  exact ⟨b f (by omega) e1, by rw [c f _ (by omega) d1, e2]⟩
theorem ic_fr {st tu rc rl rf rt st' tu' : Nat → Nat} {sto vv vv' g : Nat → Int32} {t : Nat} (h : ∀ k, k < rc t → ∀ f, rf (12 * t + k) = f + 1 → st' f = 2 → rt (12 * t + k) = tu' f → st f = 2 ∧ rt (12 * t + k) = tu f ∧ vv' (8 * rl (12 * t + k) + f) = vv (8 * rl (12 * t + k) + f)) (C : iv_Con st' tu' rc rl rf rt sto vv' t g) : iv_Con st tu rc rl rf rt sto vv t g := by
  intro k hk
  rcases C k hk with c | ⟨f, c1, c2, c3, c4⟩
  · exact Or.inl c
  · obtain ⟨a, b, c⟩ := h k hk f c1 c2 c3
    exact Or.inr ⟨f, c1, a, b, by rw [c4, c]⟩
theorem ic_fr0 {st tu rc rl rf rt st' : Nat → Nat} {sto vv g : Nat → Int32} {t : Nat} (h : ∀ f, st' f = 2 → st f = 2) (C : iv_Con st' tu rc rl rf rt sto vv t g) : iv_Con st tu rc rl rf rt sto vv t g := ic_fr (fun _ _ f _ a b => ⟨h f a, b, rfl⟩) C
/-! the transformations, one by one -/
theorem it_q {E : Nat → Prop} {σ : Nat → Nat → Nat} {ρ : Nat → Nat → Int32} (I : iv_I 1 E σ ρ) : iv_I 0 E σ ρ := by
  obtain ⟨hB, h1, h2, h3, h4, h5, h6, h7, h8, h9, h10, h11, h12, h13⟩ := I
  refine ⟨hB, h1, ?_, h3, h4, h5, h6, h7, h8, h9, h10, h11, h12, h13⟩
  intro j hj
  obtain ⟨a, b, c⟩ := h2 j hj
  exact ⟨a, by omega, c⟩
theorem it_tick {E : Nat → Prop} {σ : Nat → Nat → Nat} {ρ : Nat → Nat → Int32} {x : Int32} (I : iv_I 0 E σ ρ) : iv_I 1 E (ft_sc σ 6 ((σ 6 0) + 1)) (ft_ra ρ 5 (fun _ => x)) := by
  obtain ⟨hB, h1, h2, h3, h4, h5, h6, h7, h8, h9, h10, h11, h12, h13⟩ := I
  refine ⟨hB, h1, ?_, h3, h4, h5, h6, h7, h8, h9, h10, h11, h12, h13⟩
  intro j hj
  obtain ⟨a, b, c⟩ := h2 j hj
  exact ⟨a, by show (σ 17) j + 1 ≤ (σ 6 0) + 1; omega, c⟩
theorem it_nk {q : Nat} {σ : Nat → Nat → Nat} {ρ : Nat → Nat → Int32} (I : iv_I q iv_N σ ρ) (h : (σ 4 0) < (σ 0 0)) : iv_I q (fun t => t = (σ 4 0)) (ft_sc σ 4 ((σ 4 0) + 1)) ρ := by
  obtain ⟨hB, h1, h2, h3, h4, h5, h6, h7, h8, h9, h10, h11, h12, h13⟩ := I
  refine ⟨hB, ⟨h1.1, h⟩, h2, h3, h4, h5, h6, h7, h8, ?_, h10, h11, h12, h13⟩
  intro t ht hs
  rcases h9 t ht hs with h | h | h
  · exact h.elim
  · by_cases e : t = (σ 4 0)
    · exact Or.inl e
    · exact Or.inr (Or.inl (show (σ 4 0) + 1 ≤ t by omega))
  · exact Or.inr (Or.inr h)
theorem it_nk2 {q : Nat} {σ : Nat → Nat → Nat} {ρ : Nat → Nat → Int32} (I : iv_I q iv_N σ ρ) (h : (σ 4 0) < (σ 0 0)) (h2 : (σ 16) ((σ 4 0)) ≠ 2) : iv_I q iv_N (ft_sc σ 4 ((σ 4 0) + 1)) ρ := by
  obtain ⟨hB, h1, h2, h3, h4, h5, h6, h7, h8, h9, h10, h11, h12, h13⟩ := it_nk I h
  refine ⟨hB, h1, h2, h3, h4, h5, h6, h7, h8, ?_, h10, h11, h12, h13⟩
  intro t ht hs
  rcases h9 t ht hs with h | h
  · have h' : t = (σ 4 0) := h
    subst h'
    exact absurd hs (by assumption)
  · exact Or.inr h
theorem it_bc {q : Nat} {E : Nat → Prop} {σ : Nat → Nat → Nat} {ρ : Nat → Nat → Int32} {w t : Nat} (I : iv_I q E σ ρ) (hE : ∀ s, E s → s = t) (hw : w < (σ 2 0)) (ht : t < (σ 0 0)) (h0 : (σ 26) w = 0) : iv_I q iv_N (ft_bc σ w t) ρ := by
  obtain ⟨hB, h1, h2, h3, h4, h5, h6, h7, h8, h9, h10, h11, h12, h13⟩ := I
  have a : ∀ v, v ≠ w → ft_un ((σ 26)) w 2 v = (σ 26) v := fun v hv => ft_unN hv
  have b : ∀ v, v ≠ w → ft_un ((σ 27)) w t v = (σ 27) v := fun v hv => ft_unN hv
  have c : ∀ v, v ≠ w → ft_un ((σ 28)) w ((σ 17) t) v = (σ 28) v := fun v hv => ft_unN hv
  have d : ft_un ((σ 26)) w 2 w ≠ 1 := by rw [ft_unS]; decide
  have e1 : ft_un ((σ 27)) w t w < (σ 0 0) := by rw [ft_unS]; exact ht
  have e2 : ft_un ((σ 28)) w ((σ 17) t) w ≤ (σ 17) (ft_un ((σ 27)) w t w) := by rw [ft_unS, ft_unS]; exact Nat.le_refl _
  refine ⟨hB, h1, h2, iw_3 (w := w) h3 a b c (Or.inr ⟨ft_unS, e1, e2⟩), iw_4 (w := w) h4 a b d, iw_5 (w := w) h5 a b (by omega), iw_6 (w := w) h6 a b d, h7, h8, ?_, h10, h11, iw_12 (w := w) h12 a b d, h13⟩
  intro s hs hs2
  right
  rcases h9 s hs hs2 with h | h | ⟨v, hv, h, h', h''⟩ | h
  · have e := hE s h
    subst e
    exact Or.inr (Or.inl ⟨w, hw, ft_unS, ft_unS, ft_unS⟩)
  · exact Or.inl h
  · have hvw : v ≠ w := fun e => by subst e; omega
    exact Or.inr (Or.inl ⟨v, hv, (a v hvw).trans h, (b v hvw).trans h', (c v hvw).trans h''⟩)
  · exact Or.inr (Or.inr h)
theorem it_nc {q : Nat} {σ : Nat → Nat → Nat} {ρ : Nat → Nat → Int32} (I : iv_I q iv_N σ ρ) (h : (σ 3 0) < (σ 0 0)) (h0 : (σ 16) ((σ 3 0)) ≠ 0) : iv_I q iv_N (ft_sc σ 3 ((σ 3 0) + 1)) ρ := by
  obtain ⟨hB, h1, h2, h3, h4, h5, h6, h7, h8, h9, h10, h11, h12, h13⟩ := I
  refine ⟨hB, ⟨h, h1.2⟩, h2, h3, h4, h5, h6, h7, ?_, h9, h10, h11, h12, h13⟩
  intro t ht hs
  have := h8 t ht hs
  have hne : t ≠ (σ 3 0) := fun e => h0 (e ▸ hs)
  show (σ 3 0) + 1 ≤ t
  omega
theorem it_id {q : Nat} {σ : Nat → Nat → Nat} {ρ : Nat → Nat → Int32} {w : Nat} (I : iv_I q iv_N σ ρ) (hw : w < (σ 2 0)) (h2' : (σ 26) w = 2) (hc : ¬ ((σ 16) ((σ 27) w) = 2 ∧ (σ 17) ((σ 27) w) = (σ 28) w) ∨ ft_rh σ ((σ 27) w)) : iv_I q iv_N (ft_id σ w) ρ := by
  obtain ⟨hB, h1, h2, h3, h4, h5, h6, h7, h8, h9, h10, h11, h12, h13⟩ := I
  have a : ∀ v, v ≠ w → ft_un ((σ 26)) w 0 v = (σ 26) v := fun v hv => ft_unN hv
  have d : ft_un ((σ 26)) w 0 w = 0 := ft_unS
  have dn : ft_un ((σ 26)) w 0 w ≠ 1 := by rw [d]; decide
  refine ⟨hB, h1, h2, iw_3 (w := w) h3 a (fun _ _ => rfl) (fun _ _ => rfl) (Or.inl d), iw_4 (w := w) h4 a (fun _ _ => rfl) dn, iw_5 (w := w) h5 a (fun _ _ => rfl) (by omega), iw_6 (w := w) h6 a (fun _ _ => rfl) dn, h7, h8, ?_, h10, h11, iw_12 (w := w) h12 a (fun _ _ => rfl) dn, h13⟩
  intro s hs hs2
  right
  rcases h9 s hs hs2 with h | h | ⟨v, hv, h, h', h''⟩ | h
  · exact h.elim
  · exact Or.inl h
  · by_cases hvw : v = w
    · subst hvw
      rcases hc with hc | hc
      · rw [h'] at hc
        exact absurd ⟨hs2, h''.symm⟩ hc
      · rw [h'] at hc
        exact Or.inr (Or.inr hc)
    · exact Or.inr (Or.inl ⟨v, hv, (a v hvw).trans h, h', h''⟩)
  · exact Or.inr (Or.inr h)
theorem it_ab {σ : Nat → Nat → Nat} {ρ : Nat → Nat → Int32} {w t : Nat} (I : iv_I 1 iv_N σ ρ) (hw : w < (σ 2 0)) (h2' : (σ 26) w = 2) (et : (σ 27) w = t) (hs2 : (σ 16) t = 2) : iv_I 0 iv_N (ft_ab σ w t) ρ := by
  obtain ⟨hB, h1, h2, h3, h4, h5, h6, h7, h8, h9, h10, h11, h12, h13⟩ := I
  have ht : t < (σ 0 0) := by
    have := ((h3 w hw).2.1 (by omega)).1
    omega
  have a : ∀ v, v ≠ w → ft_un ((σ 26)) w 0 v = (σ 26) v := fun v hv => ft_unN hv
  have d : ft_un ((σ 26)) w 0 w = 0 := ft_unS
  have dn : ft_un ((σ 26)) w 0 w ≠ 1 := by rw [d]; decide
  have s2 : ∀ f, ft_un ((σ 16)) t 0 f = 2 → f ≠ t ∧ (σ 16) f = 2 := by
    intro f hf
    rw [ft_unE] at hf
    split at hf
    · omega
    · next h => exact ⟨h, hf⟩
  have u1 : ∀ f, f ≠ t → ft_un ((σ 17)) t ((σ 17) t + 1) f = (σ 17) f := fun f hf => ft_unN hf
  have cc : ∀ s g, iv_Con (ft_un ((σ 16)) t 0) (ft_un ((σ 17)) t ((σ 17) t + 1)) ((σ 19)) ((σ 20)) ((σ 21)) ((σ 22)) ((ρ 8)) ((ρ 13)) s g → iv_Con ((σ 16)) ((σ 17)) ((σ 19)) ((σ 20)) ((σ 21)) ((σ 22)) ((ρ 8)) ((ρ 13)) s g := fun s g C => ic_fr (fun k hk f hf c1 c2 => ⟨(s2 f c1).2, by rw [c2, u1 f (s2 f c1).1], rfl⟩) C
  refine ⟨hB, ⟨?_, ?_⟩, ?_, ?_, iw_4 (w := w) h4 a (fun _ _ => rfl) dn, ?_, iw_6 (w := w) h6 a (fun _ _ => rfl) dn, ?_, ?_, ?_, ?_, ?_, ?_, ?_⟩
  · show (if (σ 3 0) ≤ t then (σ 3 0) else t) ≤ (σ 0 0)
    have := h1.1
    split <;> omega
  · show (if (σ 4 0) ≤ t + 1 then (σ 4 0) else t + 1) ≤ (σ 0 0)
    have := h1.2
    split <;> omega
  · intro j hj
    obtain ⟨a1, a2, a3⟩ := h2 j hj
    refine ⟨?_, ?_, a3⟩
    · show ft_un ((σ 16)) t 0 j < 4
      rw [ft_unE]; split <;> omega
    · show ft_un ((σ 17)) t ((σ 17) t + 1) j + 0 ≤ (σ 6 0)
      rw [ft_unE]; split
      · next e => subst e; omega
      · omega
  · show iv_3 ((σ 0 0)) ((σ 2 0)) (ft_un ((σ 16)) t 0) (ft_un ((σ 17)) t ((σ 17) t + 1)) (ft_un ((σ 26)) w 0) ((σ 27)) ((σ 28))
    clear h9 h10 h11 h12 h13 cc
    unfold iv_3 at *
    grind [ft_un]
  · show iv_5 ((σ 0 0)) ((σ 2 0)) (ft_un ((σ 16)) t 0) (ft_un ((σ 26)) w 0) ((σ 27))
    clear h9 h10 h11 h12 h13 cc
    unfold iv_5 at *
    grind [ft_un]
  · show iv_7 ((σ 0 0)) (ft_un ((σ 16)) t 0) ((σ 18))
    refine ⟨fun b s hb hs hbit => ?_, fun s hs h3' => ?_, h7.2.2⟩
    · obtain ⟨c1, c2, c3, c4⟩ := h7.1 b s hb hs hbit
      have hst : s ≠ t := fun e => by subst e; omega
      exact ⟨c1, c2, (ft_unN hst).trans c3, fun h => c4 (s2 b h).2⟩
    · have hst : s ≠ t := fun e => by
        subst e
        rw [ft_unS] at h3'
        omega
      rw [ft_unN hst] at h3'
      exact h7.2.1 s hs h3'
  · show iv_8 ((σ 0 0)) (if (σ 3 0) ≤ t then (σ 3 0) else t) (ft_un ((σ 16)) t 0)
    clear h9 h10 h11 h12 h13 cc
    unfold iv_8 at *
    grind [ft_un]
  · intro s hs hsx
    obtain ⟨hne, hs2'⟩ := s2 s hsx
    right
    by_cases hlt : t < s
    · left
      show (if (σ 4 0) ≤ t + 1 then (σ 4 0) else t + 1) ≤ s
      split <;> omega
    · rcases h9 s hs hs2' with h | h | ⟨v, hv, h, h', h''⟩ | h
      · exact h.elim
      · left
        show (if (σ 4 0) ≤ t + 1 then (σ 4 0) else t + 1) ≤ s
        split <;> omega
      · have hvw : v ≠ w := fun e => by subst e; omega
        exact Or.inr (Or.inl ⟨v, hv, (a v hvw).trans h, h', h''.trans (u1 s hne).symm⟩)
      · refine Or.inr (Or.inr (ir_fr h (fun _ _ => rfl) (fun j hj hj2 => ?_) (fun _ _ _ _ => rfl) (fun k hk => ?_)))
        · exact (ft_unN (by omega)).trans hj2
        · have := h10 s k (by have := hB.1; omega) hk
          exact ⟨this.1, this.2.1⟩
  · intro s k hs hk
    obtain ⟨b1, b2, b3⟩ := h10 s k hs hk
    refine ⟨b1, b2, fun f hf => ?_⟩
    obtain ⟨b4, b5⟩ := b3 f hf
    show (σ 22) (12 * s + k) ≤ ft_un ((σ 17)) t ((σ 17) t + 1) f ∧ ((σ 22) (12 * s + k) = ft_un ((σ 17)) t ((σ 17) t + 1) f → ft_un ((σ 16)) t 0 f = 2)
    by_cases e : f = t
    · subst e
      rw [ft_unS]
      exact ⟨by omega, fun _ => by omega⟩
    · rw [ft_unN e, ft_unN e]
      exact ⟨b4, b5⟩
  · intro s c hs hsx hc hb
    obtain ⟨hne, hs2'⟩ := s2 s hsx
    exact (h11 s c hs hs2' hc hb).trans (u1 s hne).symm
  · exact fun v hv hv1 g C => iw_12 (w := w) h12 a (fun _ _ => rfl) dn v hv hv1 g (cc _ _ C)
  · intro s hs hsx g C
    exact h13 s hs (s2 s hsx).2 g (cc _ _ C)
end
section
theorem ir_fr2 {wr st vt rc rl rf rt wr' st' vt' rc' rl' rf' rt' : Nat → Nat} {t : Nat} (h : ft_RH wr st vt rc rl rf rt t) (a : ∀ j, j < t → wr' j = wr j) (b : ∀ j, j < t → st j = 2 → st' j = 2) (c : ∀ j c, j < t → c < 16 → vt' (8 * c + j) = vt (8 * c + j)) (d : ∀ k, k < rc t → rl (12 * t + k) < 16 ∧ rf (12 * t + k) ≤ t) (r : rc' t = rc t) (l : ∀ k, k < rc t → rl' (12 * t + k) = rl (12 * t + k) ∧ rf' (12 * t + k) = rf (12 * t + k) ∧ rt' (12 * t + k) = rt (12 * t + k)) : ft_RH wr' st' vt' rc' rl' rf' rt' t := by
  have h' := ir_fr h a b c d
  intro k hk
  rw [r] at hk
  have := h' k hk
  obtain ⟨l1, l2, l3⟩ := l k hk
  unfold ft_re at *
  rw [l1, l2, l3]
  exact this
theorem ic_fr2 {st tu rc rl rf rt st' rc' rl' rf' rt' : Nat → Nat} {sto vv g : Nat → Int32} {t : Nat} (h : ∀ f, st' f = 2 → st f = 2) (r : rc' t = rc t) (l : ∀ k, k < rc t → rl' (12 * t + k) = rl (12 * t + k) ∧ rf' (12 * t + k) = rf (12 * t + k) ∧ rt' (12 * t + k) = rt (12 * t + k)) (C : iv_Con st' tu rc' rl' rf' rt' sto vv t g) : iv_Con st tu rc rl rf rt sto vv t g := by
  refine ic_fr0 h ?_
  intro k hk
  have := C k (by rw [r]; exact hk)
  obtain ⟨l1, l2, l3⟩ := l k hk
  rw [l1, l2, l3] at this
  exact this
theorem mc_Rf {p z e o : Nat} {rg sv uo rg' sv' uo' : Nat → Int32} {w t : Nat} {g : Nat → Int32} {m : mc_M} (h : mc_R p z e o rg sv uo w t g m) (a : ∀ r, r < 4 → rg' (4 * w + r) = rg (4 * w + r)) (b : ∀ c, c < 16 → sv' (16 * w + c) = sv (16 * w + c)) (c : ∀ k, k < o → uo' (12 * t + k) = uo (12 * t + k)) : mc_R p z e o rg' sv' uo' w t g m := by
  obtain ⟨h1, h2, h3, h4, h5, h6, h7⟩ := h
  exact ⟨h1, h2, h3, h4, fun r hr => (a r hr).trans (h5 r hr), fun d hd => by rw [b d hd]; exact h6 d hd, fun k hk => (c k hk).trans (h7 k hk)⟩
theorem it_ca {q : Nat} {σ : Nat → Nat → Nat} {ρ : Nat → Nat → Int32} {w t : Nat} (I : iv_I q iv_N σ ρ) (hw : w < (σ 2 0)) (h0 : (σ 26) w = 0) (et : t = (σ 3 0)) (hn : t < (σ 0 0)) (hs0 : (σ 16) t = 0) : iv_I q iv_N (ft_ca (ft_sc σ 3 (t + 1)) w t) (ft_car ρ w) := by
  obtain ⟨hB, h1, h2, h3, h4, h5, h6, h7, h8, h9, h10, h11, h12, h13⟩ := I
  have h8c := hB.1
  have s2 : ∀ f, ft_un ((σ 16)) t 1 f = 2 → f ≠ t ∧ (σ 16) f = 2 := by
    intro f hf
    rw [ft_unE] at hf
    split at hf
    · omega
    · next h => exact ⟨h, hf⟩
  have s2' : ∀ f, (σ 16) f = 2 → ft_un ((σ 16)) t 1 f = 2 := by
    intro f hf
    rw [ft_unN (fun e => by subst e; omega)]
    exact hf
  have nt : ∀ v, v < (σ 2 0) → (σ 26) v = 1 → (σ 27) v ≠ t := by
    intro v hv hv1 e
    have := ((h3 v hv).2.2 hv1).1
    rw [e] at this
    omega
  have cc : ∀ s g, s ≠ t → iv_Con (ft_un ((σ 16)) t 1) ((σ 17)) (ft_un ((σ 19)) t 0) ((σ 20)) ((σ 21)) ((σ 22)) ((ρ 8)) ((ρ 13)) s g → iv_Con ((σ 16)) ((σ 17)) ((σ 19)) ((σ 20)) ((σ 21)) ((σ 22)) ((ρ 8)) ((ρ 13)) s g := fun s g hs C => ic_fr2 (fun f hf => (s2 f hf).2) (ft_unN hs) (fun _ _ => ⟨rfl, rfl, rfl⟩) C
  refine ⟨hB, ⟨hn, h1.2⟩, ?_, ?_, ?_, ?_, ?_, ?_, ?_, ?_, ?_, ?_, ?_, ?_⟩
  · intro j hj
    obtain ⟨a1, a2, a3, a4, a5, a6⟩ := h2 j hj
    refine ⟨?_, a2, a3, ?_, ?_, a6⟩
    · show ft_un ((σ 16)) t 1 j < 4
      rw [ft_unE]; split <;> omega
    · show ft_un ((σ 19)) t 0 j ≤ 12
      rw [ft_unE]; split <;> omega
    · show ft_un ((σ 24)) t 0 j ≤ 12
      rw [ft_unE]; split <;> omega
  · show iv_3 ((σ 0 0)) ((σ 2 0)) (ft_un ((σ 16)) t 1) ((σ 17)) (ft_un ((σ 26)) w 1) (ft_un ((σ 27)) w t) (ft_un ((σ 28)) w ((σ 17) t))
    clear h7 h9 h10 h11 h12 h13 cc h6 h5 h4 h8 h2
    unfold iv_3 at *
    grind [ft_un]
  · show iv_4 ((σ 2 0)) (ft_un ((σ 26)) w 1) (ft_un ((σ 27)) w t)
    clear h7 h9 h10 h11 h12 h13 cc h6 h5 h8 h2 h3
    unfold iv_4 at *
    grind [ft_un]
  · show iv_5 ((σ 0 0)) ((σ 2 0)) (ft_un ((σ 16)) t 1) (ft_un ((σ 26)) w 1) (ft_un ((σ 27)) w t)
    intro s hs hs1
    by_cases e : s = t
    · exact ⟨w, hw, ft_unS, ft_unS.trans e.symm⟩
    · rw [ft_unN e] at hs1
      obtain ⟨v, hv, a, b⟩ := h5 s hs hs1
      have hvw : v ≠ w := fun e => by subst e; omega
      exact ⟨v, hv, (ft_unN hvw).trans a, (ft_unN hvw).trans b⟩
  · show iv_6 ((σ 2 0)) (ft_un ((σ 26)) w 1) (ft_un ((σ 27)) w t) (ft_un ((σ 29)) w 0) (ft_un ((σ 31)) w 0) (ft_un ((σ 33)) w 0) (ft_un ((σ 24)) t 0) (ft_un ((σ 19)) t 0)
    clear h7 h9 h10 h11 h12 h13 cc h5 h4 h8 h2 h3
    unfold iv_6 at *
    grind [ft_un]
  · show iv_7 ((σ 0 0)) (ft_un ((σ 16)) t 1) ((σ 18))
    refine ⟨fun b s hb hs hbit => ?_, fun s hs h3' => ?_, h7.2.2⟩
    · obtain ⟨c1, c2, c3, c4⟩ := h7.1 b s hb hs hbit
      have hst : s ≠ t := fun e => by subst e; omega
      exact ⟨c1, c2, (ft_unN hst).trans c3, fun h => c4 (s2 b h).2⟩
    · have hst : s ≠ t := fun e => by
        subst e
        rw [ft_unS] at h3'
        omega
      rw [ft_unN hst] at h3'
      exact h7.2.1 s hs h3'
  · intro s hs hs0'
    have hs0'' : ft_un ((σ 16)) t 1 s = 0 := hs0'
    show t + 1 ≤ s
    by_cases e : s = t
    · subst e
      rw [ft_unS] at hs0''
      omega
    · rw [ft_unN e] at hs0''
      have := h8 s hs hs0''
      omega
  · intro s hs hsx
    have hs' : s < (σ 0 0) := hs
    obtain ⟨hne, hs2'⟩ := s2 s hsx
    right
    rcases h9 s hs hs2' with h | h | ⟨v, hv, h, h', h''⟩ | h
    · exact h.elim
    · exact Or.inl h
    · have hvw : v ≠ w := fun e => by subst e; omega
      exact Or.inr (Or.inl ⟨v, hv, (ft_unN hvw).trans h, (ft_unN hvw).trans h', (ft_unN hvw).trans h''⟩)
    · refine Or.inr (Or.inr (ir_fr2 h (fun _ _ => rfl) (fun j _ hj2 => s2' j hj2) (fun _ _ _ _ => rfl) (fun k hk => ?_) (ft_unN hne) (fun _ _ => ⟨rfl, rfl, rfl⟩)))
      have := h10 s k (by omega) hk
      exact ⟨this.1, this.2.1⟩
  · intro s k hs hk
    have hk' : k < ft_un ((σ 19)) t 0 s := hk
    by_cases e : s = t
    · subst e
      rw [ft_unS] at hk'
      omega
    · rw [ft_unN e] at hk'
      obtain ⟨b1, b2, b3⟩ := h10 s k hs hk'
      exact ⟨b1, b2, fun f hf => ⟨(b3 f hf).1, fun h => s2' f ((b3 f hf).2 h)⟩⟩
  · intro s c hs hsx hc hb
    exact h11 s c hs (s2 s hsx).2 hc hb
  · intro v hv hv1 g C
    by_cases e : v = w
    · subst e
      refine ⟨0, ?_⟩
      have e1 : ft_un ((σ 27)) v t v = t := ft_unS
      show mc_R (ft_un ((σ 29)) v 0 v) (ft_un ((σ 31)) v 0 v) (ft_un ((σ 33)) v 0 v) (ft_un ((σ 24)) t 0 (ft_un ((σ 27)) v t v)) (ft_zr ((ρ 30)) (4 * v) (4 * v + 4)) ((ρ 32)) ((ρ 25)) v (ft_un ((σ 27)) v t v) g (mc_0 g)
      rw [e1, ft_unS, ft_unS, ft_unS, ft_unS]
      refine ⟨rfl, rfl, rfl, rfl, fun r hr => ?_, fun c hc => ?_, fun k hk => by omega⟩
      · exact if_pos ⟨by omega, by omega⟩
      · rw [Nat.zero_testBit]
        rfl
    · have hv1' : (σ 26) v = 1 := by
        rw [← hv1]
        exact (ft_unN e).symm
      have e1 : ft_un ((σ 27)) w t v = (σ 27) v := ft_unN e
      have hnt := nt v hv hv1'
      have C' : iv_Con (ft_un ((σ 16)) t 1) ((σ 17)) (ft_un ((σ 19)) t 0) ((σ 20)) ((σ 21)) ((σ 22)) ((ρ 8)) ((ρ 13)) (ft_un ((σ 27)) w t v) g := C
      rw [e1] at C'
      obtain ⟨k, hk⟩ := h12 v hv hv1' g (cc _ _ hnt C')
      refine ⟨k, ?_⟩
      show mc_R (ft_un ((σ 29)) w 0 v) (ft_un ((σ 31)) w 0 v) (ft_un ((σ 33)) w 0 v) (ft_un ((σ 24)) t 0 (ft_un ((σ 27)) w t v)) (ft_zr ((ρ 30)) (4 * w) (4 * w + 4)) ((ρ 32)) ((ρ 25)) v (ft_un ((σ 27)) w t v) g (mc_run ((σ 9)) ((σ 10)) ((σ 11)) ((ρ 12)) (ft_un ((σ 27)) w t v) g k)
      rw [e1, ft_unN e, ft_unN e, ft_unN e, ft_unN hnt]
      exact mc_Rf hk (fun r hr => if_neg (by omega)) (fun _ _ => rfl) (fun _ _ => rfl)
  · intro s hs hsx g C
    obtain ⟨hne, hs2'⟩ := s2 s hsx
    obtain ⟨r1, r2, r3, r4, r5⟩ := h13 s hs hs2' g (cc _ _ hne C)
    refine ⟨r1, r2, ?_, ?_, r5⟩
    · exact (ft_unN hne).trans r3
    · intro k hk
      have hk' : k < ft_un ((σ 24)) t 0 s := hk
      rw [ft_unN hne] at hk'
      exact r4 k hk'
end
section
/-! an instruction that reads nothing of others; a read that is noted; a wait -/
theorem mc_runS {ln op pl : Nat → Nat} {nu : Nat → Int32} {t k : Nat} {g : Nat → Int32} (h : (mc_run ln op pl nu t g k).1 < ln t) : mc_run ln op pl nu t g (k + 1) = mc_st op pl nu t (mc_run ln op pl nu t g k) := by
  show (if ln t ≤ (mc_run ln op pl nu t g k).1 then mc_run ln op pl nu t g k else mc_st op pl nu t (mc_run ln op pl nu t g k)) = _
  rw [if_neg (by omega)]
theorem it_loc {q : Nat} {σ : Nat → Nat → Nat} {ρ : Nat → Nat → Int32} {w t : Nat} {σ' : Nat → Nat → Nat} {ρ' : Nat → Nat → Int32} (I : iv_I q iv_N σ ρ) (hw : w < (σ 2 0)) (hk1 : (σ 26) w = 1) (et : (σ 27) w = t) (hl : (σ 29) w < (σ 9) t) (H : ft_Loc σ ρ w t σ' ρ') : iv_I q iv_N σ' ρ' := by
  obtain ⟨hB, h1, h2, h3, h4, h5, h6, h7, h8, h9, h10, h11, h12, h13⟩ := I
  obtain ⟨p', z', e', o', R, V, U, rfl, rfl, c1, c2, c3, c4, c5, c6, c7, c8, c9, c10⟩ := H
  have h8c := hB.1
  have hst1 := ((h3 w hw).2.2 hk1).1
  have htc := ((h3 w hw).2.1 (by omega)).1
  rw [et] at hst1 htc
  have nt : ∀ v, v < (σ 2 0) → (σ 26) v = 1 → v ≠ w → (σ 27) v ≠ t := by
    intro v hv hv1 hvw e
    exact hvw (h4 v w hv hw hv1 hk1 (e.trans et.symm))
  refine ⟨hB, h1, ?_, h3, h4, h5, ?_, h7, h8, h9, h10, h11, ?_, ?_⟩
  · intro j hj
    obtain ⟨a1, a2, a3, a4, a5, a6⟩ := h2 j hj
    refine ⟨a1, a2, a3, a4, ?_, a6⟩
    show ft_un ((σ 24)) t o' j ≤ 12
    rw [ft_unE]; split <;> omega
  · intro v hv hv1
    show ft_un ((σ 29)) w p' v ≤ 13 ∧ ft_un ((σ 31)) w z' v < 65536 ∧ ft_un ((σ 33)) w e' v ≤ 1 ∧ ft_un ((σ 24)) t o' ((σ 27) v) ≤ ft_un ((σ 29)) w p' v ∧ (σ 19) ((σ 27) v) ≤ ft_un ((σ 29)) w p' v
    obtain ⟨d1, d2, d3, d4, d5⟩ := h6 v hv hv1
    by_cases e : v = w
    · subst e
      rw [et] at d4 d5
      rw [ft_unS, ft_unS, ft_unS, et, ft_unS]
      exact ⟨c2, c3, c4, by omega, by omega⟩
    · rw [ft_unN e, ft_unN e, ft_unN e, ft_unN (nt v hv hv1 e)]
      exact ⟨d1, d2, d3, d4, d5⟩
  · intro v hv hv1 g C
    obtain ⟨k, hk⟩ := h12 v hv hv1 g C
    by_cases e : v = w
    · subst e
      refine ⟨k + 1, ?_⟩
      show mc_R (ft_un ((σ 29)) v p' v) (ft_un ((σ 31)) v z' v) (ft_un ((σ 33)) v e' v) (ft_un ((σ 24)) t o' ((σ 27) v)) R V U v ((σ 27) v) g (mc_run ((σ 9)) ((σ 10)) ((σ 11)) ((ρ 12)) ((σ 27) v) g (k + 1))
      rw [et] at hk
      rw [et, ft_unS, ft_unS, ft_unS, ft_unS, mc_runS (by rw [hk.1]; exact hl)]
      exact c10 g _ hk
    · refine ⟨k, ?_⟩
      have hnt := nt v hv hv1 e
      have hv8 := ((h3 v hv).2.1 (show (σ 26) v ≠ 0 by have : (σ 26) v = 1 := hv1; omega)).1
      have ho := (h2 ((σ 27) v) (by omega)).2.2.2.2.1
      show mc_R (ft_un ((σ 29)) w p' v) (ft_un ((σ 31)) w z' v) (ft_un ((σ 33)) w e' v) (ft_un ((σ 24)) t o' ((σ 27) v)) R V U v ((σ 27) v) g (mc_run ((σ 9)) ((σ 10)) ((σ 11)) ((ρ 12)) ((σ 27) v) g k)
      rw [ft_unN e, ft_unN e, ft_unN e, ft_unN hnt]
      exact mc_Rf hk (fun r hr => c7 _ (by omega)) (fun c hc => c8 _ (by omega)) (fun j hj => c9 _ (by omega))
  · intro s hs hs2 g C
    have hs2' : (σ 16) s = 2 := hs2
    have hs' : s < (σ 0 0) := hs
    have hne : s ≠ t := fun e => by subst e; omega
    obtain ⟨r1, r2, r3, r4, r5⟩ := h13 s hs hs2 g C
    have ho := (h2 s (by omega)).2.2.2.2.1
    refine ⟨r1, r2, (ft_unN hne).trans r3, ?_, r5⟩
    intro k hk
    have hk' : k < ft_un ((σ 24)) t o' s := hk
    rw [ft_unN hne] at hk'
    exact (c9 _ (by omega)).trans (r4 k hk')
theorem it_log {q : Nat} {σ : Nat → Nat → Nat} {ρ : Nat → Nat → Int32} {w t : Nat} {σ' : Nat → Nat → Nat} {ρ' : Nat → Nat → Int32} (I : iv_I q iv_N σ ρ) (hw : w < (σ 2 0)) (hk1 : (σ 26) w = 1) (et : (σ 27) w = t) (hl : (σ 29) w < (σ 9) t) (H : ft_Log σ ρ w t σ' ρ') : iv_I q iv_N σ' ρ' := by
  obtain ⟨hB, h1, h2, h3, h4, h5, h6, h7, h8, h9, h10, h11, h12, h13⟩ := I
  obtain ⟨c, fr, tn, x, R, rfl, rfl, c1, c2, c3, c4, c5⟩ := H
  have h8c := hB.1
  have hst1 := ((h3 w hw).2.2 hk1).1
  have htc := ((h3 w hw).2.1 (by omega)).1
  rw [et] at hst1 htc
  obtain ⟨d1, d2, d3, d4, d5⟩ := h6 w hw hk1
  rw [et] at d4 d5
  have hl12 := hB.2.2.2.1 t (by omega)
  have nt : ∀ v, v < (σ 2 0) → (σ 26) v = 1 → v ≠ w → (σ 27) v ≠ t := by
    intro v hv hv1 hvw e
    exact hvw (h4 v w hv hw hv1 hk1 (e.trans et.symm))
  have ll : ∀ s k, s < 8 → s ≠ t → k < (σ 19) s → ft_un ((σ 20)) (12 * t + (σ 19) t) c (12 * s + k) = (σ 20) (12 * s + k) ∧ ft_un ((σ 21)) (12 * t + (σ 19) t) fr (12 * s + k) = (σ 21) (12 * s + k) ∧ ft_un ((σ 22)) (12 * t + (σ 19) t) tn (12 * s + k) = (σ 22) (12 * s + k) := by
    intro s k hs hst hk
    have := (h2 s hs).2.2.2.1
    exact ⟨ft_unN (by omega), ft_unN (by omega), ft_unN (by omega)⟩
  have lo : ∀ k, k < (σ 19) t → ft_un ((σ 20)) (12 * t + (σ 19) t) c (12 * t + k) = (σ 20) (12 * t + k) ∧ ft_un ((σ 21)) (12 * t + (σ 19) t) fr (12 * t + k) = (σ 21) (12 * t + k) ∧ ft_un ((σ 22)) (12 * t + (σ 19) t) tn (12 * t + k) = (σ 22) (12 * t + k) := by
    intro k hk
    exact ⟨ft_unN (by omega), ft_unN (by omega), ft_unN (by omega)⟩
  have cc : ∀ s g, s < 8 → s ≠ t → iv_Con ((σ 16)) ((σ 17)) (ft_un ((σ 19)) t ((σ 19) t + 1)) (ft_un ((σ 20)) (12 * t + (σ 19) t) c) (ft_un ((σ 21)) (12 * t + (σ 19) t) fr) (ft_un ((σ 22)) (12 * t + (σ 19) t) tn) ((ρ 8)) ((ρ 13)) s g → iv_Con ((σ 16)) ((σ 17)) ((σ 19)) ((σ 20)) ((σ 21)) ((σ 22)) ((ρ 8)) ((ρ 13)) s g := fun s g hs hst C => ic_fr2 (fun _ h => h) (ft_unN hst) (ll s · hs hst) C
  have htn : tn < 2147483648 := by
    rcases c3 with ⟨_, e, _⟩ | ⟨f, _, hf, _, e, _⟩
    · omega
    · rw [e]
      exact hB.2.2.2.2.2.1 _ (by omega)
  refine ⟨⟨hB.1, hB.2.1, hB.2.2.1, hB.2.2.2.1, hB.2.2.2.2.1, hB.2.2.2.2.2.1, ?_⟩, h1, ?_, h3, h4, h5, ?_, h7, h8, ?_, ?_, h11, ?_, ?_⟩
  · intro j hj
    have := hB.2.2.2.2.2.2 j hj
    show ft_un ((σ 22)) (12 * t + (σ 19) t) tn j < 2147483648
    rw [ft_unE]; split <;> omega
  · intro j hj
    obtain ⟨a1, a2, a3, a4, a5, a6⟩ := h2 j hj
    refine ⟨a1, a2, a3, ?_, a5, a6⟩
    show ft_un ((σ 19)) t ((σ 19) t + 1) j ≤ 12
    rw [ft_unE]; split <;> omega
  · intro v hv hv1
    show ft_un ((σ 29)) w ((σ 29) w + 1) v ≤ 13 ∧ (σ 31) v < 65536 ∧ (σ 33) v ≤ 1 ∧ (σ 24) ((σ 27) v) ≤ ft_un ((σ 29)) w ((σ 29) w + 1) v ∧ ft_un ((σ 19)) t ((σ 19) t + 1) ((σ 27) v) ≤ ft_un ((σ 29)) w ((σ 29) w + 1) v
    by_cases e : v = w
    · subst e
      rw [ft_unS, et, ft_unS]
      exact ⟨by omega, d2, d3, by omega, by omega⟩
    · obtain ⟨d1, d2, d3, d4, d5⟩ := h6 v hv hv1
      rw [ft_unN e, ft_unN (nt v hv hv1 e)]
      exact ⟨d1, d2, d3, d4, d5⟩
  · intro s hs hs2
    have hs2' : (σ 16) s = 2 := hs2
    have hs' : s < (σ 0 0) := hs
    have hne : s ≠ t := fun e => by subst e; omega
    rcases h9 s hs hs2 with h | h | h | h
    · exact h.elim
    · exact Or.inr (Or.inl h)
    · exact Or.inr (Or.inr (Or.inl h))
    · refine Or.inr (Or.inr (Or.inr (ir_fr2 h (fun _ _ => rfl) (fun j _ hj2 => hj2) (fun _ _ _ _ => rfl) (fun k hk => ?_) (ft_unN hne) (fun k hk => ll s k (by omega) hne hk))))
      have := h10 s k (by omega) hk
      exact ⟨this.1, this.2.1⟩
  · intro s k hs hk
    have hk' : k < ft_un ((σ 19)) t ((σ 19) t + 1) s := hk
    show ft_un ((σ 20)) (12 * t + (σ 19) t) c (12 * s + k) < 16 ∧ ft_un ((σ 21)) (12 * t + (σ 19) t) fr (12 * s + k) ≤ s ∧ (∀ f, ft_un ((σ 21)) (12 * t + (σ 19) t) fr (12 * s + k) = f + 1 → ft_un ((σ 22)) (12 * t + (σ 19) t) tn (12 * s + k) ≤ (σ 17) f ∧ (ft_un ((σ 22)) (12 * t + (σ 19) t) tn (12 * s + k) = (σ 17) f → (σ 16) f = 2))
    by_cases e : s = t
    · subst e
      rw [ft_unS] at hk'
      by_cases ek : k = (σ 19) s
      · subst ek
        rw [ft_unS, ft_unS, ft_unS]
        refine ⟨c1, by rw [← c2]; exact ft_nb_le _ _ _, fun f hf => ?_⟩
        rcases c3 with ⟨e1, _⟩ | ⟨f', e1, e2, e3, e4, _⟩
        · omega
        · have ef : f' = f := by omega
          subst ef
          have := h11 f' c (by omega) e3 c1 (ft_nb_bit _ _ _ _ (c2.trans e1))
          exact ⟨by omega, fun _ => e3⟩
      · obtain ⟨l1, l2, l3⟩ := lo k (by omega)
        rw [l1, l2, l3]
        exact h10 s k hs (by omega)
    · rw [ft_unN e] at hk'
      obtain ⟨l1, l2, l3⟩ := ll s k hs e hk'
      rw [l1, l2, l3]
      exact h10 s k hs hk'
  · intro v hv hv1 g C
    have C' : iv_Con ((σ 16)) ((σ 17)) (ft_un ((σ 19)) t ((σ 19) t + 1)) (ft_un ((σ 20)) (12 * t + (σ 19) t) c) (ft_un ((σ 21)) (12 * t + (σ 19) t) fr) (ft_un ((σ 22)) (12 * t + (σ 19) t) tn) ((ρ 8)) ((ρ 13)) ((σ 27) v) g := C
    by_cases e : v = w
    · subst e
      rw [et] at C'
      have C0 : iv_Con ((σ 16)) ((σ 17)) ((σ 19)) ((σ 20)) ((σ 21)) ((σ 22)) ((ρ 8)) ((ρ 13)) ((σ 27) v) g := by
        rw [et]
        intro k hk
        have := C' k (by rw [ft_unS]; omega)
        obtain ⟨l1, l2, l3⟩ := lo k hk
        rw [l1, l2, l3] at this
        exact this
      have hx : g c = x := by
        have := C' ((σ 19) t) (by rw [ft_unS]; omega)
        rw [ft_unS, ft_unS, ft_unS] at this
        rcases this with ⟨e1, e2⟩ | ⟨f, e1, e2, e3, e4⟩
        · rcases c3 with ⟨_, _, e5⟩ | ⟨f', e5, _⟩
          · rw [e2, e5]
          · omega
        · rcases c3 with ⟨e5, _⟩ | ⟨f', e5, _, _, _, e6⟩
          · omega
          · have ef : f' = f := by omega
            subst ef
            rw [e4, e6]
      obtain ⟨k, hk⟩ := h12 v hv hv1 g C0
      refine ⟨k + 1, ?_⟩
      show mc_R (ft_un ((σ 29)) v ((σ 29) v + 1) v) ((σ 31) v) ((σ 33) v) ((σ 24) ((σ 27) v)) R ((ρ 32)) ((ρ 25)) v ((σ 27) v) g (mc_run ((σ 9)) ((σ 10)) ((σ 11)) ((ρ 12)) ((σ 27) v) g (k + 1))
      rw [et] at hk
      rw [et, ft_unS, mc_runS (by rw [hk.1]; exact hl)]
      exact c5 g _ hk hx
    · have hnt := nt v hv hv1 e
      have hv8 := ((h3 v hv).2.1 (show (σ 26) v ≠ 0 by have : (σ 26) v = 1 := hv1; omega)).1
      obtain ⟨k, hk⟩ := h12 v hv hv1 g (cc _ _ (by omega) hnt C')
      refine ⟨k, ?_⟩
      show mc_R (ft_un ((σ 29)) w ((σ 29) w + 1) v) ((σ 31) v) ((σ 33) v) ((σ 24) ((σ 27) v)) R ((ρ 32)) ((ρ 25)) v ((σ 27) v) g (mc_run ((σ 9)) ((σ 10)) ((σ 11)) ((ρ 12)) ((σ 27) v) g k)
      rw [ft_unN e]
      exact mc_Rf hk (fun r hr => c4 _ (by omega)) (fun _ _ => rfl) (fun _ _ => rfl)
  · intro s hs hs2 g C
    have hs2' : (σ 16) s = 2 := hs2
    have hs' : s < (σ 0 0) := hs
    have hne : s ≠ t := fun e => by subst e; omega
    exact h13 s hs hs2 g (cc _ _ (by omega) hne C)
theorem it_wai {q : Nat} {σ : Nat → Nat → Nat} {ρ : Nat → Nat → Int32} {w t : Nat} {σ' : Nat → Nat → Nat} {ρ' : Nat → Nat → Int32} (I : iv_I q iv_N σ ρ) (hw : w < (σ 2 0)) (hk1 : (σ 26) w = 1) (et : (σ 27) w = t) (H : ft_Wai σ ρ w t σ' ρ') : iv_I q iv_N σ' ρ' := by
  obtain ⟨hB, h1, h2, h3, h4, h5, h6, h7, h8, h9, h10, h11, h12, h13⟩ := I
  obtain ⟨f, hf, hfs, _, rfl, rfl⟩ := H
  have h8c := hB.1
  have hst1 := ((h3 w hw).2.2 hk1).1
  have htc := ((h3 w hw).2.1 (by omega)).1
  rw [et] at hst1 htc
  have nt : ∀ v, v < (σ 2 0) → (σ 26) v = 1 → v ≠ w → (σ 27) v ≠ t := by
    intro v hv hv1 hvw e
    exact hvw (h4 v w hv hw hv1 hk1 (e.trans et.symm))
  have a : ∀ v, v ≠ w → ft_un ((σ 26)) w 0 v = (σ 26) v := fun v hv => ft_unN hv
  have dn : ft_un ((σ 26)) w 0 w ≠ 1 := by rw [ft_unS]; decide
  have s2 : ∀ f, ft_un ((σ 16)) t 3 f = 2 → f ≠ t ∧ (σ 16) f = 2 := by
    intro f hf
    rw [ft_unE] at hf
    split at hf
    · omega
    · next h => exact ⟨h, hf⟩
  have s2' : ∀ f, (σ 16) f = 2 → ft_un ((σ 16)) t 3 f = 2 := by
    intro f hf
    rw [ft_unN (fun e => by subst e; omega)]
    exact hf
  have vw : ∀ v, ft_un ((σ 26)) w 0 v = 1 → v ≠ w ∧ (σ 26) v = 1 := by
    intro v hv
    have : v ≠ w := fun e => by subst e; exact dn hv
    exact ⟨this, (a v this).symm.trans hv⟩
  have bt' : ∀ b s, (ft_un ((σ 18)) f ((σ 18) f ||| 2 ^ t) b).testBit s = true ↔ (((σ 18) b).testBit s = true ∨ (b = f ∧ s = t)) := by
    intro b s
    by_cases e : b = f
    · subst e
      rw [ft_unS, ft_orB, Bool.or_eq_true, decide_eq_true_eq]
      exact ⟨fun h => h.imp id (fun e => ⟨rfl, e.symm⟩), fun h => h.imp id (fun e => e.2.symm)⟩
    · rw [ft_unN e]
      simp [e]
  refine ⟨hB, h1, ?_, ?_, iw_4 (w := w) h4 a (fun _ _ => rfl) dn, ?_, ?_, ⟨?_, ?_, ?_⟩, ?_, ?_, ?_, ?_, ?_, ?_⟩
  · intro j hj
    obtain ⟨a1, a2, a3⟩ := h2 j hj
    refine ⟨?_, a2, a3⟩
    show ft_un ((σ 16)) t 3 j < 4
    rw [ft_unE]; split <;> omega
  · intro v hv
    show ft_un ((σ 26)) w 0 v ≤ 2 ∧ (ft_un ((σ 26)) w 0 v ≠ 0 → (σ 27) v < (σ 0 0) ∧ (σ 28) v ≤ (σ 17) ((σ 27) v)) ∧ (ft_un ((σ 26)) w 0 v = 1 → ft_un ((σ 16)) t 3 ((σ 27) v) = 1 ∧ (σ 28) v = (σ 17) ((σ 27) v))
    obtain ⟨b1, b2, b3⟩ := h3 v hv
    by_cases e : v = w
    · subst e
      rw [ft_unS]
      exact ⟨by omega, fun h => absurd rfl h, fun h => by omega⟩
    · rw [a v e]
      refine ⟨b1, b2, fun h => ?_⟩
      rw [ft_unN (nt v hv h e)]
      exact b3 h
  · intro s hs hs1
    have hs1' : ft_un ((σ 16)) t 3 s = 1 := hs1
    have hne : s ≠ t := fun e => by
      subst e
      rw [ft_unS] at hs1'
      omega
    rw [ft_unN hne] at hs1'
    obtain ⟨v, hv, b1, b2⟩ := h5 s hs hs1'
    have hvw : v ≠ w := fun e => by subst e; omega
    exact ⟨v, hv, (a v hvw).trans b1, b2⟩
  · intro v hv hv1
    obtain ⟨e, hv1'⟩ := vw v hv1
    show ft_un ((σ 29)) w ((σ 29) w + 1) v ≤ 13 ∧ (σ 31) v < 65536 ∧ (σ 33) v ≤ 1 ∧ (σ 24) ((σ 27) v) ≤ ft_un ((σ 29)) w ((σ 29) w + 1) v ∧ (σ 19) ((σ 27) v) ≤ ft_un ((σ 29)) w ((σ 29) w + 1) v
    rw [ft_unN e]
    exact h6 v hv hv1'
  · intro b s hb hs hbit
    show b < s ∧ s < (σ 0 0) ∧ ft_un ((σ 16)) t 3 s = 3 ∧ ft_un ((σ 16)) t 3 b ≠ 2
    rcases (bt' b s).mp hbit with h | ⟨e1, e2⟩
    · obtain ⟨c1, c2, c3, c4⟩ := h7.1 b s hb hs h
      have hst : s ≠ t := fun e => by subst e; omega
      exact ⟨c1, c2, (ft_unN hst).trans c3, fun h => c4 (s2 b h).2⟩
    · subst e1 e2
      exact ⟨hf, htc, ft_unS, fun h => hfs (s2 b h).2⟩
  · intro s hs h3'
    have h3'' : ft_un ((σ 16)) t 3 s = 3 := h3'
    by_cases e : s = t
    · subst e
      exact ⟨f, hf, (bt' f s).mpr (Or.inr ⟨rfl, rfl⟩)⟩
    · rw [ft_unN e] at h3''
      obtain ⟨b, hb, hbit⟩ := h7.2.1 s hs h3''
      exact ⟨b, hb, (bt' b s).mpr (Or.inl hbit)⟩
  · intro b b' s hb hb' hs x y
    have no : ∀ b, b < 8 → ¬ ((σ 18) b).testBit t = true := fun b hb h => by
      have := (h7.1 b t hb (by omega) h).2.2.1
      omega
    rcases (bt' b s).mp x with h | ⟨e1, e2⟩
    · rcases (bt' b' s).mp y with h' | ⟨e3, e4⟩
      · exact h7.2.2 b b' s hb hb' hs h h'
      · subst e4
        exact absurd h (no b hb)
    · rcases (bt' b' s).mp y with h' | ⟨e3, e4⟩
      · subst e2
        exact absurd h' (no b' hb')
      · omega
  · intro s hs h0
    have h0' : ft_un ((σ 16)) t 3 s = 0 := h0
    have hne : s ≠ t := fun e => by
      subst e
      rw [ft_unS] at h0'
      omega
    rw [ft_unN hne] at h0'
    exact h8 s hs h0'
  · intro s hs hsx
    have hs' : s < (σ 0 0) := hs
    obtain ⟨hne, hs2'⟩ := s2 s hsx
    right
    rcases h9 s hs hs2' with h | h | ⟨v, hv, h, h', h''⟩ | h
    · exact h.elim
    · exact Or.inl h
    · have hvw : v ≠ w := fun e => by subst e; omega
      exact Or.inr (Or.inl ⟨v, hv, (a v hvw).trans h, h', h''⟩)
    · refine Or.inr (Or.inr (ir_fr h (fun _ _ => rfl) (fun j _ hj2 => s2' j hj2) (fun _ _ _ _ => rfl) (fun k hk => ?_)))
      have := h10 s k (by omega) hk
      exact ⟨this.1, this.2.1⟩
  · intro s k hs hk
    obtain ⟨b1, b2, b3⟩ := h10 s k hs hk
    exact ⟨b1, b2, fun f hf => ⟨(b3 f hf).1, fun h => s2' f ((b3 f hf).2 h)⟩⟩
  · intro s c hs hsx hc hb
    exact h11 s c hs (s2 s hsx).2 hc hb
  · intro v hv hv1 g C
    obtain ⟨e, hv1'⟩ := vw v hv1
    obtain ⟨k, hk⟩ := h12 v hv hv1' g (ic_fr0 (fun f hf => (s2 f hf).2) C)
    refine ⟨k, ?_⟩
    show mc_R (ft_un ((σ 29)) w ((σ 29) w + 1) v) ((σ 31) v) ((σ 33) v) ((σ 24) ((σ 27) v)) ((ρ' 30)) ((ρ' 32)) ((ρ' 25)) v ((σ 27) v) g (mc_run ((σ 9)) ((σ 10)) ((σ 11)) ((ρ' 12)) ((σ 27) v) g k)
    rw [ft_unN e]
    exact hk
  · intro s hs hsx g C
    exact h13 s hs (s2 s hsx).2 g (ic_fr0 (fun f hf => (s2 f hf).2) C)
end
section
/-! the machine halts within 12 -/
theorem mc_pos {o a b : Nat} {n : Int32} {m : mc_M} (h : m.1 < 12) : m.1 + 1 ≤ (mc_ex o a b n m).1 := by
  obtain ⟨pos, mask, fail, oc, reg, mem, ou⟩ := m
  have h' : pos < 12 := h
  unfold mc_ex
  simp only [apply_ite Prod.fst]
  repeat' split
  all_goals omega
theorem mc_stay {ln op pl : Nat → Nat} {nu : Nat → Int32} {t k : Nat} {g : Nat → Int32} (h : ln t ≤ (mc_run ln op pl nu t g k).1) : ∀ i, mc_run ln op pl nu t g (k + i) = mc_run ln op pl nu t g k := by
  intro i
  induction i with
  | zero => rfl
  | succ i ih =>
    show (if ln t ≤ (mc_run ln op pl nu t g (k + i)).1 then mc_run ln op pl nu t g (k + i) else mc_st op pl nu t (mc_run ln op pl nu t g (k + i))) = _
    rw [ih, if_pos h]
theorem mc_fwd {ln op pl : Nat → Nat} {nu : Nat → Int32} {t : Nat} {g : Nat → Int32} (hl : ln t ≤ 12) : ∀ k, k ≤ 12 → ln t ≤ (mc_run ln op pl nu t g k).1 ∨ k ≤ (mc_run ln op pl nu t g k).1 := by
  intro k
  induction k with
  | zero => intro _; exact Or.inr (Nat.zero_le _)
  | succ k ih =>
    intro hk
    by_cases h : ln t ≤ (mc_run ln op pl nu t g k).1
    · left
      rw [mc_stay h 1]
      exact h
    · right
      rw [mc_runS (by omega)]
      have h2 : k ≤ (mc_run ln op pl nu t g k).1 := by
        rcases ih (by omega) with h' | h'
        · exact absurd h' h
        · exact h'
      have h3 : (mc_run ln op pl nu t g k).1 + 1 ≤ (mc_st op pl nu t (mc_run ln op pl nu t g k)).1 := mc_pos (by omega)
      omega
theorem mc_hal {ln op pl : Nat → Nat} {nu : Nat → Int32} {t : Nat} {g : Nat → Int32} (hl : ln t ≤ 12) : ln t ≤ (mc_run ln op pl nu t g 12).1 := by
  rcases mc_fwd (op := op) (pl := pl) (nu := nu) (g := g) hl 12 (Nat.le_refl _) with h | h <;> omega
theorem mc_end {ln op pl : Nat → Nat} {nu : Nat → Int32} {t k : Nat} {g : Nat → Int32} (hl : ln t ≤ 12) (h : ln t ≤ (mc_run ln op pl nu t g k).1) : mc_run ln op pl nu t g k = mc_run ln op pl nu t g 12 := by
  by_cases hk : k ≤ 12
  · have := mc_stay h (12 - k)
    rw [show k + (12 - k) = 12 by omega] at this
    exact this.symm
  · have := mc_stay (mc_hal (op := op) (pl := pl) (nu := nu) (g := g) hl) (k - 12)
    rw [show 12 + (k - 12) = k by omega] at this
    exact this
/-! what the loop over those that wait does -/
theorem ft_nmD {m n : Nat} : ∀ d j, j < d → m.testBit j = true → ft_nm m n d ≤ j := by
  intro d
  induction d with
  | zero => intro j hj; omega
  | succ d ih =>
    intro j hj hb
    unfold ft_nm
    by_cases e : j = d
    · subst e
      rw [if_pos hb]
      split <;> omega
    · have := ih j (by omega) hb
      split
      · split <;> omega
      · exact this
/-- it is no less than a bound of all -/
theorem ft_nmG {m n b : Nat} (h0 : b ≤ n) : ∀ d, (∀ j, j < d → m.testBit j = true → b ≤ j) → b ≤ ft_nm m n d := by
  intro d
  induction d with
  | zero => intro _; exact h0
  | succ d ih =>
    intro h
    have := ih (fun j hj => h j (by omega))
    unfold ft_nm
    split
    · next hb =>
      have := h d (by omega) hb
      split <;> omega
    · exact this
/-- a finish that writes no new cell keeps what held -/
theorem ir_fin {wr st vt rc rl rf rt st' : Nat → Nat} {s t z tn : Nat} (h : ft_RH wr st vt rc rl rf rt s) (hts : t < s) (ht8 : t < 8) (h8 : s ≤ 8) (h1 : st t ≠ 2) (hz : ft_le z (wr t)) (b : ∀ j, j ≠ t → st j = 2 → st' j = 2) (d : ∀ k, k < rc s → rl (12 * s + k) < 16 ∧ rf (12 * s + k) ≤ s) : ft_RH (ft_un wr t z) st' (ft_vt vt tn t z 16) rc rl rf rt s := by
  intro k hk
  obtain ⟨g1, g2⟩ := h k hk
  obtain ⟨d1, d2⟩ := d k hk
  generalize hc : rl (12 * s + k) = c at *
  generalize hr : rf (12 * s + k) = r at *
  have hrt : r ≠ t + 1 := fun e => h1 (g2 t e).1
  unfold ft_re
  rw [hc, hr]
  refine ⟨ft_nb_of _ _ _ _ d2 ?_ ?_, ?_⟩
  · intro f hf
    rw [ft_unN (by omega)]
    exact ft_nb_bit wr c s f (g1.trans hf)
  · intro j hj1 hj2
    by_cases e : j = t
    · subst e
      rw [ft_unS]
      have hoff : (wr j).testBit c = false := ft_nb_off wr c s j (by omega) hts
      cases hb : z.testBit c with
      | false => rfl
      | true => rw [hz c d1 hb] at hoff; exact absurd hoff (by decide)
    · rw [ft_unN e]
      exact ft_nb_off wr c s j (by omega) hj2
  · intro f hf
    obtain ⟨e1, e2⟩ := g2 f hf
    refine ⟨b f (by omega) e1, ?_⟩
    unfold ft_vt
    rw [if_neg (by omega)]
    exact e2
theorem it_fi {σ : Nat → Nat → Nat} {ρ : Nat → Nat → Int32} {w t : Nat} {E : Nat → Prop} (I : iv_I 1 iv_N σ ρ) (hclk : (σ 6 0) < 2147483648) (hw : w < (σ 2 0)) (hk1 : (σ 26) w = 1) (et : (σ 27) w = t) (hl : (σ 9) t ≤ (σ 29) w) (hEt : E t) (hE : (∀ s, t < s → E s) ∨ ft_le (ft_zs σ w) ((σ 15) t)) : iv_I 0 E (ft_fi σ w t) (ft_apr ρ w t (ft_zs σ w)) := by
  obtain ⟨hB, h1, h2, h3, h4, h5, h6, h7, h8, h9, h10, h11, h12, h13⟩ := I
  have h8c := hB.1
  have hst1 := ((h3 w hw).2.2 hk1).1
  have htc := ((h3 w hw).2.1 (by omega)).1
  rw [et] at hst1 htc
  obtain ⟨d1, d2, d3, d4, d5⟩ := h6 w hw hk1
  rw [et] at d4 d5
  have hz : ft_zs σ w < 65536 := by
    unfold ft_zs
    split <;> omega
  have hz0 : (σ 33) w = 0 → ft_zs σ w = (σ 31) w := fun h => if_pos h
  have hz1 : (σ 33) w ≠ 0 → ft_zs σ w = 0 := fun h => if_neg h
  have htu := (h2 t (by omega)).2.1
  generalize hzz : ft_zs σ w = z at *
  have mb : ∀ j, j < 8 → ((σ 18) t).testBit j = true → t < j ∧ j < (σ 0 0) ∧ (σ 16) j = 3 := by
    intro j hj hb
    obtain ⟨c1, c2, c3, _⟩ := h7.1 t j (by omega) hj hb
    exact ⟨c1, c2, c3⟩
  have nt : ∀ v, v < (σ 2 0) → (σ 26) v = 1 → v ≠ w → (σ 27) v ≠ t := by
    intro v hv hv1 hvw e
    exact hvw (h4 v w hv hw hv1 hk1 (e.trans et.symm))
  have a : ∀ v, v ≠ w → ft_un ((σ 26)) w 0 v = (σ 26) v := fun v hv => ft_unN hv
  have dn : ft_un ((σ 26)) w 0 w ≠ 1 := by rw [ft_unS]; decide
  have vw : ∀ v, ft_un ((σ 26)) w 0 v = 1 → v ≠ w ∧ (σ 26) v = 1 := by
    intro v hv
    have : v ≠ w := fun e => by subst e; exact dn hv
    exact ⟨this, (a v this).symm.trans hv⟩
  obtain ⟨st', hst'⟩ : ∃ f, f = ft_w0 (ft_un ((σ 16)) t 2) ((σ 18) t) 8 := ⟨_, rfl⟩
  obtain ⟨tu', htu'⟩ : ∃ f, f = ft_w1 ((σ 17)) ((σ 18) t) 8 := ⟨_, rfl⟩
  have sW : ∀ j, j < 8 → ((σ 18) t).testBit j = true → st' j = 0 ∧ tu' j = (σ 17) j + 1 := by
    intro j hj hb
    rw [hst', htu']
    exact ⟨if_pos ⟨hj, hb⟩, if_pos ⟨hj, hb⟩⟩
  have sN : ∀ j, ¬ (j < 8 ∧ ((σ 18) t).testBit j = true) → st' j = ft_un ((σ 16)) t 2 j ∧ tu' j = (σ 17) j := by
    intro j hj
    rw [hst', htu']
    exact ⟨if_neg hj, if_neg hj⟩
  have sT : st' t = 2 ∧ tu' t = (σ 17) t := by
    have hn : ¬ (t < 8 ∧ ((σ 18) t).testBit t = true) := fun h => by
      have := (mb t h.1 h.2).1
      omega
    obtain ⟨x, y⟩ := sN t hn
    exact ⟨x.trans ft_unS, y⟩
  have s2 : ∀ j, j ≠ t → st' j = 2 → (σ 16) j = 2 ∧ tu' j = (σ 17) j := by
    intro j hj h
    by_cases hb : j < 8 ∧ ((σ 18) t).testBit j = true
    · have := (sW j hb.1 hb.2).1
      omega
    · obtain ⟨x, y⟩ := sN j hb
      rw [x, ft_unN hj] at h
      exact ⟨h, y⟩
  have s2' : ∀ j, j ≠ t → (σ 16) j = 2 → st' j = 2 := by
    intro j hj h
    by_cases hb : j < 8 ∧ ((σ 18) t).testBit j = true
    · have := (mb j hb.1 hb.2).2.2
      omega
    · rw [(sN j hb).1, ft_unN hj]
      exact h
  have s1 : ∀ j, st' j = 1 → j ≠ t ∧ (σ 16) j = 1 := by
    intro j h
    have hj : j ≠ t := fun e => by
      subst e
      have := sT.1
      omega
    refine ⟨hj, ?_⟩
    by_cases hb : j < 8 ∧ ((σ 18) t).testBit j = true
    · have := (sW j hb.1 hb.2).1
      omega
    · rw [(sN j hb).1, ft_unN hj] at h
      exact h
  have s1' : ∀ j, j ≠ t → (σ 16) j = 1 → st' j = 1 ∧ tu' j = (σ 17) j := by
    intro j hj h
    by_cases hb : j < 8 ∧ ((σ 18) t).testBit j = true
    · have := (mb j hb.1 hb.2).2.2
      omega
    · rw [(sN j hb).1, ft_unN hj]
      exact ⟨h, (sN j hb).2⟩
  have tl : ∀ j, (σ 17) j ≤ tu' j ∧ tu' j ≤ (σ 17) j + 1 := by
    intro j
    by_cases hb : j < 8 ∧ ((σ 18) t).testBit j = true
    · have := (sW j hb.1 hb.2).2
      omega
    · have := (sN j hb).2
      omega
  have vs : ∀ s c, s < 8 → s ≠ t → ft_vt ((σ 14)) ((σ 17) t) t z 16 (8 * c + s) = (σ 14) (8 * c + s) := by
    intro s c hs hne
    exact if_neg (by omega)
  have vvs : ∀ s c, s < 8 → s ≠ t → ft_vv ((ρ 13)) ((ρ 32)) w t z 16 (8 * c + s) = (ρ 13) (8 * c + s) := by
    intro s c hs hne
    exact if_neg (by omega)
  have cc : ∀ s g, s < 8 → iv_Con st' tu' ((σ 19)) ((σ 20)) ((σ 21)) ((σ 22)) ((ρ 8)) (ft_vv ((ρ 13)) ((ρ 32)) w t z 16) s g → iv_Con ((σ 16)) ((σ 17)) ((σ 19)) ((σ 20)) ((σ 21)) ((σ 22)) ((ρ 8)) ((ρ 13)) s g := by
    intro s g hs8 C
    refine ic_fr (fun k hk f hf c1 c2 => ?_) C
    obtain ⟨b1, b2, b3⟩ := h10 s k hs8 hk
    by_cases e : f = t
    · subst e
      rw [sT.2] at c2
      have := (b3 f hf).2 c2
      omega
    · obtain ⟨x, y⟩ := s2 f e c1
      exact ⟨x, c2.trans y, vvs f _ (by omega) e⟩
  have hS : ((ft_fi σ w t) 16) = st' := by
    rw [hst']
    rfl
  have hT : ((ft_fi σ w t) 17) = tu' := by
    rw [htu']
    rfl
  have hV : ((ft_fi σ w t) 14) = ft_vt ((σ 14)) ((σ 17) t) t z 16 := by
    rw [← hzz]
    rfl
  have hW : ((ft_fi σ w t) 15) = ft_un ((σ 15)) t z := by
    rw [← hzz]
    rfl
  unfold iv_I
  rw [hS, hT, hV, hW]
  refine ⟨⟨hB.1, hB.2.1, hB.2.2.1, hB.2.2.2.1, hB.2.2.2.2.1, ?_, hB.2.2.2.2.2.2⟩, ⟨?_, h1.2⟩, ?_, ?_, iw_4 (w := w) h4 a (fun _ _ => rfl) dn, ?_, iw_6 (w := w) h6 a (fun _ _ => rfl) dn, ⟨?_, ?_, ?_⟩, ?_, ?_, ?_, ?_, ?_, ?_⟩
  · intro j hj
    have := hB.2.2.2.2.2.1 j hj
    unfold ft_vt
    split <;> omega
  · exact Nat.le_trans (ft_nmL _ _ _) h1.1
  · intro j hj
    obtain ⟨a1, a2, a3, a4, a5, a6⟩ := h2 j hj
    refine ⟨?_, ?_, ?_, a4, a5, ?_⟩
    · by_cases hb : j < 8 ∧ ((σ 18) t).testBit j = true
      · have := (sW j hb.1 hb.2).1
        omega
      · rw [(sN j hb).1, ft_unE]; split <;> omega
    · have := (tl j).2
      show tu' j + 0 ≤ (σ 6 0)
      omega
    · rw [ft_unE]; split <;> omega
    · show ft_un ((σ 23)) t ((σ 33) w) j ≤ 1
      rw [ft_unE]; split <;> omega
  · intro v hv
    show ft_un ((σ 26)) w 0 v ≤ 2 ∧ (ft_un ((σ 26)) w 0 v ≠ 0 → (σ 27) v < (σ 0 0) ∧ (σ 28) v ≤ tu' ((σ 27) v)) ∧ (ft_un ((σ 26)) w 0 v = 1 → st' ((σ 27) v) = 1 ∧ (σ 28) v = tu' ((σ 27) v))
    obtain ⟨b1, b2, b3⟩ := h3 v hv
    by_cases e : v = w
    · subst e
      rw [ft_unS]
      exact ⟨by omega, fun h => absurd rfl h, fun h => by omega⟩
    · rw [a v e]
      refine ⟨b1, fun h => ⟨(b2 h).1, ?_⟩, fun h => ?_⟩
      · have := (b2 h).2
        have := (tl ((σ 27) v)).1
        omega
      · obtain ⟨x, y⟩ := b3 h
        obtain ⟨x', y'⟩ := s1' _ (nt v hv h e) x
        exact ⟨x', y.trans y'.symm⟩
  · intro s hs hs1
    obtain ⟨hne, hs1'⟩ := s1 s hs1
    obtain ⟨v, hv, b1, b2⟩ := h5 s hs hs1'
    have hvw : v ≠ w := fun e => by subst e; omega
    exact ⟨v, hv, (a v hvw).trans b1, b2⟩
  · intro b s hb hs hbit
    have hbit' : (ft_un ((σ 18)) t 0 b).testBit s = true := hbit
    show b < s ∧ s < (σ 0 0) ∧ st' s = 3 ∧ st' b ≠ 2
    have hbt : b ≠ t := fun e => by
      subst e
      rw [ft_unS, Nat.zero_testBit] at hbit'
      exact absurd hbit' (by decide)
    rw [ft_unN hbt] at hbit'
    obtain ⟨c1, c2, c3, c4⟩ := h7.1 b s hb hs hbit'
    have hst : s ≠ t := fun e => by subst e; omega
    have hnb : ¬ (s < 8 ∧ ((σ 18) t).testBit s = true) := fun h => hbt (h7.2.2 b t s hb (by omega) hs hbit' h.2)
    refine ⟨c1, c2, ?_, fun h => c4 (s2 b hbt h).1⟩
    rw [(sN s hnb).1, ft_unN hst]
    exact c3
  · intro s hs h3'
    have hs' : s < (σ 0 0) := hs
    have hst : s ≠ t := fun e => by
      subst e
      have := sT.1
      omega
    have hnb : ¬ (s < 8 ∧ ((σ 18) t).testBit s = true) := fun h => by
      have := (sW s h.1 h.2).1
      omega
    rw [(sN s hnb).1, ft_unN hst] at h3'
    obtain ⟨b, hb, hbit⟩ := h7.2.1 s hs h3'
    have hbt : b ≠ t := fun e => by
      subst e
      exact hnb ⟨by omega, hbit⟩
    refine ⟨b, hb, ?_⟩
    show (ft_un ((σ 18)) t 0 b).testBit s = true
    rw [ft_unN hbt]
    exact hbit
  · intro b b' s hb hb' hs x y
    have x' : (ft_un ((σ 18)) t 0 b).testBit s = true := x
    have y' : (ft_un ((σ 18)) t 0 b').testBit s = true := y
    have hbt : b ≠ t := fun e => by
      subst e
      rw [ft_unS, Nat.zero_testBit] at x'
      exact absurd x' (by decide)
    have hbt' : b' ≠ t := fun e => by
      subst e
      rw [ft_unS, Nat.zero_testBit] at y'
      exact absurd y' (by decide)
    rw [ft_unN hbt] at x'
    rw [ft_unN hbt'] at y'
    exact h7.2.2 b b' s hb hb' hs x' y'
  · intro s hs h0
    have hs' : s < (σ 0 0) := hs
    show ft_nm ((σ 18) t) ((σ 3 0)) 8 ≤ s
    by_cases hb : s < 8 ∧ ((σ 18) t).testBit s = true
    · exact ft_nmD 8 s hb.1 hb.2
    · have hst : s ≠ t := fun e => by
        subst e
        have := sT.1
        omega
      rw [(sN s hb).1, ft_unN hst] at h0
      exact Nat.le_trans (ft_nmL _ _ _) (h8 s hs h0)
  · intro s hs hsx
    have hs' : s < (σ 0 0) := hs
    by_cases hst : s = t
    · exact Or.inl (hst ▸ hEt)
    · obtain ⟨x, y⟩ := s2 s hst hsx
      have rr : ∀ k, k < (σ 19) s → (σ 20) (12 * s + k) < 16 ∧ (σ 21) (12 * s + k) ≤ s := fun k hk => by
        have := h10 s k (by omega) hk
        exact ⟨this.1, this.2.1⟩
      rcases h9 s hs x with h | h | ⟨v, hv, h, h', h''⟩ | h
      · exact h.elim
      · exact Or.inr (Or.inl h)
      · have hvw : v ≠ w := fun e => by subst e; omega
        exact Or.inr (Or.inr (Or.inl ⟨v, hv, (a v hvw).trans h, h', h''.trans y.symm⟩))
      · by_cases hlt : t < s
        · rcases hE with hE | hE
          · exact Or.inl (hE s hlt)
          · exact Or.inr (Or.inr (Or.inr (ir_fin h hlt (by omega) (by omega) (by omega) hE s2' rr)))
        · exact Or.inr (Or.inr (Or.inr (ir_fr h (fun j hj => ft_unN (by omega)) (fun j hj hj2 => s2' j (by omega) hj2) (fun j c hj _ => vs j c (by omega) (by omega)) rr)))
  · intro s k hs hk
    obtain ⟨b1, b2, b3⟩ := h10 s k hs hk
    refine ⟨b1, b2, fun f hf => ?_⟩
    obtain ⟨b4, b5⟩ := b3 f hf
    have := (tl f).1
    show (σ 22) (12 * s + k) ≤ tu' f ∧ ((σ 22) (12 * s + k) = tu' f → st' f = 2)
    refine ⟨by omega, fun h => ?_⟩
    have b6 := b5 (by omega)
    exact s2' f (fun e => by subst e; omega) b6
  · intro s c hs hsx hc hb
    have hs' : s < (σ 0 0) := hs
    by_cases hst : s = t
    · subst hst
      rw [ft_unS] at hb
      rw [sT.2]
      have e1 : (8 * c + s) / 8 = c := by omega
      unfold ft_vt
      rw [e1, if_pos ⟨by omega, by omega, hb⟩]
    · obtain ⟨x, y⟩ := s2 s hst hsx
      rw [ft_unN hst] at hb
      rw [vs s c (by omega) hst, y]
      exact h11 s c hs x hc hb
  · intro v hv hv1 g C
    obtain ⟨e, hv1'⟩ := vw v hv1
    have hv8 := ((h3 v hv).2.1 (by omega)).1
    exact h12 v hv hv1' g (cc _ _ (by omega) C)
  · intro s hs hsx g C
    have hs' : s < (σ 0 0) := hs
    have C' : iv_Con ((σ 16)) ((σ 17)) ((σ 19)) ((σ 20)) ((σ 21)) ((σ 22)) ((ρ 8)) ((ρ 13)) s g := cc _ _ (by omega) C
    by_cases hst : s = t
    · subst hst
      obtain ⟨k, hk⟩ := h12 w hw hk1 g (by rw [et]; exact C')
      rw [et] at hk
      have hend := mc_end (hB.2.2.2.1 s (by omega)) (by rw [hk.1]; exact hl)
      rw [hend] at hk
      show iv_Res (ft_un ((σ 15)) s z) (ft_un ((σ 23)) s ((σ 33) w)) ((σ 24)) (ft_vv ((ρ 13)) ((ρ 32)) w s z 16) ((ρ 25)) s g (mc_run ((σ 9)) ((σ 10)) ((σ 11)) ((ρ 12)) s g 12)
      obtain ⟨k1, k2, k3, k4, k5, k6, k7⟩ := hk
      refine ⟨?_, ?_, k4.symm, fun k hk => (k7 k hk), fun c hc hf => ?_⟩
      · rw [ft_unS, k3]
      · rw [ft_unS, k3, k2]
        split
        · next h => exact hz0 h
        · next h => exact hz1 h
      · rw [k3] at hf
        have ez := hz0 hf
        rw [k6 c hc, k2]
        have e1 : (8 * c + s) / 8 = c := by omega
        unfold ft_vv
        rw [e1, ez]
        by_cases hb : ((σ 31) w).testBit c = true
        · rw [if_pos hb, if_pos hb, if_pos ⟨by omega, by omega, hb⟩]
        · rw [if_neg hb, if_neg hb]
    · obtain ⟨x, y⟩ := s2 s hst hsx
      obtain ⟨r1, r2, r3, r4, r5⟩ := h13 s hs x g C'
      show iv_Res (ft_un ((σ 15)) t z) (ft_un ((σ 23)) t ((σ 33) w)) ((σ 24)) (ft_vv ((ρ 13)) ((ρ 32)) w t z 16) ((ρ 25)) s g (mc_run ((σ 9)) ((σ 10)) ((σ 11)) ((ρ 12)) s g 12)
      refine ⟨(ft_unN hst).trans r1, (ft_unN hst).trans r2, r3, r4, fun c hc hf => ?_⟩
      rw [vvs s c (by omega) hst]
      exact r5 c hc hf
end
section
/-! every step keeps the invariants -/
theorem it_drop {q : Nat} {E : Nat → Prop} {σ : Nat → Nat → Nat} {ρ : Nat → Nat → Int32} (I : iv_I q E σ ρ) (hE : ∀ s, E s → (σ 4 0) ≤ s) : iv_I q iv_N σ ρ := by
  obtain ⟨hB, h1, h2, h3, h4, h5, h6, h7, h8, h9, h10, h11, h12, h13⟩ := I
  refine ⟨hB, h1, h2, h3, h4, h5, h6, h7, h8, ?_, h10, h11, h12, h13⟩
  intro t ht hs
  rcases h9 t ht hs with h | h
  · exact Or.inr (Or.inl (hE t h))
  · exact Or.inr h
theorem it_nks {q : Nat} {E : Nat → Prop} {σ : Nat → Nat → Nat} {ρ : Nat → Nat → Int32} {t : Nat} (I : iv_I q E σ ρ) (hE : ∀ s, E s → t ≤ s) (ht : t ≤ (σ 4 0)) : iv_I q iv_N (ft_sc σ 4 t) ρ := by
  obtain ⟨hB, h1, h2, h3, h4, h5, h6, h7, h8, h9, h10, h11, h12, h13⟩ := I
  refine ⟨hB, ⟨h1.1, Nat.le_trans ht h1.2⟩, h2, h3, h4, h5, h6, h7, h8, ?_, h10, h11, h12, h13⟩
  intro s hs hs2
  right
  rcases h9 s hs hs2 with h | h | h
  · exact Or.inl (hE s h)
  · exact Or.inl (Nat.le_trans ht h)
  · exact Or.inr h
theorem it_stp {σ : Nat → Nat → Nat} {ρ : Nat → Nat → Int32} {w : Nat} {σ' : Nat → Nat → Nat} {ρ' : Nat → Nat → Int32} (I : iv_I 1 iv_N σ ρ) (hclk : (σ 6 0) < 2147483648) (hw : w < (σ 2 0)) (S : ft_Stp σ ρ w σ' ρ') : iv_I 0 iv_N σ' ρ' := by
  rcases S with ⟨h0, S⟩ | ⟨h2, S⟩ | ⟨h1, hl, S⟩ | ⟨h1, hl, S⟩
  · rcases S with ⟨a, b, rfl, rfl⟩ | ⟨a, b, c, rfl, rfl⟩ | ⟨a, b, c, rfl, rfl⟩ | ⟨a, b, c, rfl, rfl⟩ | ⟨a, b, c, rfl, rfl⟩
    · exact it_q I
    · exact it_bc (σ := ft_sc σ 4 ((σ 4 0) + 1)) (it_q (it_nk I b)) (fun s hs => hs) hw b h0
    · exact it_q (it_nk2 I b c)
    · exact it_ca (it_q I) hw h0 rfl b c
    · exact it_q (it_nc I b c)
  · rcases S with ⟨a, b, c, rfl, rfl⟩ | ⟨a, rfl, rfl⟩
    · exact it_ab I hw h2 rfl a
    · exact it_q (it_id I hw h2 a)
  · have htc := ((I.2.2.2.1 w hw).2.1 (by omega)).1
    obtain ⟨rfl, ⟨a, rfl⟩ | ⟨a, b, rfl⟩ | ⟨a, b, rfl⟩⟩ := S
    · exact it_drop (it_fi (E := fun s => (σ 27) w ≤ s) I hclk hw h1 rfl hl (Nat.le_refl _) (Or.inl (fun s hs => Nat.le_of_lt hs))) (fun s hs => Nat.le_trans a hs)
    · exact it_bc (it_fi (E := fun s => s = (σ 27) w) I hclk hw h1 rfl hl rfl (Or.inr b)) (fun s hs => hs) hw htc ft_unS
    · exact it_nks (it_fi (E := fun s => (σ 27) w ≤ s) I hclk hw h1 rfl hl (Nat.le_refl _) (Or.inl (fun s hs => Nat.le_of_lt hs))) (fun s hs => hs) (Nat.le_of_lt a)
  · rcases S with S | S | S
    · exact it_q (it_loc I hw h1 rfl hl S)
    · exact it_q (it_log I hw h1 rfl hl S)
    · exact it_q (it_wai I hw h1 rfl S)
theorem it_wf {q : Nat} {E : Nat → Prop} {σ : Nat → Nat → Nat} {ρ : Nat → Nat → Int32} {w : Nat} (I : iv_I q E σ ρ) (hclk : (σ 6 0) < 2147483648) (hw : w < (σ 2 0)) : ft_WF σ w := by
  obtain ⟨hB, h1, h2, h3, h4, h5, h6, h7, h8, h9, h10, h11, h12, h13⟩ := I
  obtain ⟨b1, b2, b3, b4, b5, b6, b7⟩ := hB
  obtain ⟨c1, c2⟩ := h1
  refine ⟨b1, by omega, by omega, fun j hj => (h2 j hj).1, (h3 w hw).1, fun h => ?_, fun t ht => ⟨(h2 t ht).2.2.2.1, fun k hk => ?_, fun j hj => (h2 j hj).1, b6, b7⟩, fun t ht => ?_, fun h => ?_, fun h => ?_, b4, b5⟩
  · have := ((h3 w hw).2.1 h).1
    omega
  · obtain ⟨x, y, _⟩ := h10 t k ht hk
    exact ⟨x, by omega⟩
  · have := (h2 t ht).2.1
    omega
  · obtain ⟨x, y⟩ := (h3 w hw).2.1 h
    have := (h2 ((σ 27) w) (by omega)).2.1
    omega
  · obtain ⟨x1, x2, x3, x4, x5⟩ := h6 w hw h
    exact ⟨x3, x2, x1, x5, x4⟩
/-- what no step changes -/
def it_Fx (σ : Nat → Nat → Nat) (ρ : Nat → Nat → Int32) (σ' : Nat → Nat → Nat) (ρ' : Nat → Nat → Int32) : Prop := (σ' 0 0) = (σ 0 0) ∧ (σ' 1 0) = (σ 1 0) ∧ (σ' 2 0) = (σ 2 0) ∧ (σ' 6 0) = (σ 6 0) ∧ (σ' 9) = (σ 9) ∧ (σ' 10) = (σ 10) ∧ (σ' 11) = (σ 11) ∧ (ρ' 8) = (ρ 8) ∧ (ρ' 12) = (ρ 12)
theorem it_fx {σ : Nat → Nat → Nat} {ρ : Nat → Nat → Int32} {w : Nat} {σ' : Nat → Nat → Nat} {ρ' : Nat → Nat → Int32} (S : ft_Stp σ ρ w σ' ρ') : it_Fx σ ρ σ' ρ' := by
  rcases S with ⟨h0, S⟩ | ⟨h2, S⟩ | ⟨h1, hl, S⟩ | ⟨h1, hl, S⟩
  · rcases S with ⟨a, b, rfl, rfl⟩ | ⟨a, b, c, rfl, rfl⟩ | ⟨a, b, c, rfl, rfl⟩ | ⟨a, b, c, rfl, rfl⟩ | ⟨a, b, c, rfl, rfl⟩ <;> exact ⟨rfl, rfl, rfl, rfl, rfl, rfl, rfl, rfl, rfl⟩
  · rcases S with ⟨a, b, c, rfl, rfl⟩ | ⟨a, rfl, rfl⟩ <;> exact ⟨rfl, rfl, rfl, rfl, rfl, rfl, rfl, rfl, rfl⟩
  · obtain ⟨rfl, ⟨a, rfl⟩ | ⟨a, b, rfl⟩ | ⟨a, b, rfl⟩⟩ := S <;> exact ⟨rfl, rfl, rfl, rfl, rfl, rfl, rfl, rfl, rfl⟩
  · rcases S with S | S | S
    · obtain ⟨p', z', e', o', R, V, U, rfl, rfl, _⟩ := S
      exact ⟨rfl, rfl, rfl, rfl, rfl, rfl, rfl, rfl, rfl⟩
    · obtain ⟨c, fr, tn, x, R, rfl, rfl, _⟩ := S
      exact ⟨rfl, rfl, rfl, rfl, rfl, rfl, rfl, rfl, rfl⟩
    · obtain ⟨f, hf, hfs, _, rfl, rfl⟩ := S
      exact ⟨rfl, rfl, rfl, rfl, rfl, rfl, rfl, rfl, rfl⟩
end
section
/-! what a step does to transaction s, all before it being stable -/
def rk_P (σ : Nat → Nat → Nat) (s : Nat) : Prop := ∀ t, t < s → (σ 16) t = 2 ∧ ft_rh σ t
def rk_re (tk ps : Nat → Nat) (w : Nat) : Nat := if tk w = 1 then 15 - ps w else if tk w = 2 then 1 else 0
def rk_mn (a b : Nat) : Nat := if a ≤ b then a else b
/-- the other workers stay as they are -/
def rk_Fr (σ : Nat → Nat → Nat) (w : Nat) (σ' : Nat → Nat → Nat) : Prop := ∀ v, v ≠ w → (σ' 26) v = (σ 26) v ∧ (σ' 27) v = (σ 27) v ∧ (σ' 28) v = (σ 28) v ∧ (σ' 29) v = (σ 29) v
theorem ft_fiF {σ : Nat → Nat → Nat} {w t : Nat} (h7 : iv_7 ((σ 0 0)) ((σ 16)) ((σ 18))) (ht : t < 8) : (∀ j, j ≠ t → (σ 16) j = 2 → ((ft_fi σ w t) 16) j = 2) ∧ ((ft_fi σ w t) 16) t = 2 ∧ (∀ j, j < t → ((ft_fi σ w t) 16) j = (σ 16) j ∧ ((ft_fi σ w t) 17) j = (σ 17) j) ∧ ((ft_fi σ w t) 17) t = (σ 17) t := by
  have mb : ∀ j, j < 8 → ((σ 18) t).testBit j = true → t < j ∧ (σ 16) j = 3 := by
    intro j hj hb
    obtain ⟨c1, c2, c3, _⟩ := h7.1 t j ht hj hb
    exact ⟨c1, c3⟩
  have hS : ((ft_fi σ w t) 16) = ft_w0 (ft_un ((σ 16)) t 2) ((σ 18) t) 8 := rfl
  have hT : ((ft_fi σ w t) 17) = ft_w1 ((σ 17)) ((σ 18) t) 8 := rfl
  rw [hS, hT]
  have sN : ∀ j, ¬ (j < 8 ∧ ((σ 18) t).testBit j = true) → ft_w0 (ft_un ((σ 16)) t 2) ((σ 18) t) 8 j = ft_un ((σ 16)) t 2 j ∧ ft_w1 ((σ 17)) ((σ 18) t) 8 j = (σ 17) j := by
    intro j hj
    exact ⟨if_neg hj, if_neg hj⟩
  have nT : ∀ j, j ≤ t → ¬ (j < 8 ∧ ((σ 18) t).testBit j = true) := fun j hj h => by
    have := (mb j h.1 h.2).1
    omega
  refine ⟨fun j hj h => ?_, ?_, fun j hj => ?_, (sN t (nT t (Nat.le_refl _))).2⟩
  · by_cases hb : j < 8 ∧ ((σ 18) t).testBit j = true
    · have := (mb j hb.1 hb.2).2
      omega
    · rw [(sN j hb).1, ft_unN hj]
      exact h
  · rw [(sN t (nT t (Nat.le_refl _))).1, ft_unS]
  · obtain ⟨x, y⟩ := sN j (nT j (by omega))
    exact ⟨x.trans (ft_unN (by omega)), y⟩
/-- nothing happens to s -/
def rk_Q0 (σ σ' : Nat → Nat → Nat) (s : Nat) : Prop := (σ' 16) s = (σ 16) s ∧ (σ' 17) s = (σ 17) s ∧ rk_mn ((σ' 3 0)) (s + 1) = rk_mn ((σ 3 0)) (s + 1) ∧ rk_mn ((σ' 4 0)) (s + 1) = rk_mn ((σ 4 0)) (s + 1) ∧ (ft_rh σ s → ft_rh σ' s)
theorem rk_busy {σ : Nat → Nat → Nat} {ρ : Nat → Nat → Int32} {w s : Nat} {σ' : Nat → Nat → Nat} {ρ' : Nat → Nat → Int32} (I : iv_I 1 iv_N σ ρ) (hw : w < (σ 2 0)) (P : rk_P σ s) (hs : s < (σ 0 0)) (hb : (σ 26) w ≠ 0) (S : ft_Stp σ ρ w σ' ρ') :
    rk_re ((σ' 26)) ((σ' 29)) w < rk_re ((σ 26)) ((σ 29)) w ∧ rk_Fr σ w σ' ∧ (rk_Q0 σ σ' s ∨ ((σ 26) w = 2 ∧ (σ 27) w = s ∧ (σ 16) s = 2 ∧ (σ' 16) s = 0 ∧ ¬ ft_rh σ s) ∨ ((σ 26) w = 1 ∧ (σ 27) w = s ∧ (σ' 16) s = 2 ∧ (ft_rh σ s → ft_rh σ' s))) := by
  obtain ⟨hB, h1, h2, h3, h4, h5, h6, h7, h8, h9, h10, h11, h12, h13⟩ := I
  have h8c := hB.1
  have rr : ∀ k, k < (σ 19) s → (σ 20) (12 * s + k) < 16 ∧ (σ 21) (12 * s + k) ≤ s := fun k hk => by
    have := h10 s k (by omega) hk
    exact ⟨this.1, this.2.1⟩
  have htc := ((h3 w hw).2.1 hb).1
  rcases S with ⟨h0, S⟩ | ⟨hk2, S⟩ | ⟨hk1, hl, S⟩ | ⟨hk1, hl, S⟩
  · exact absurd h0 hb
  · have hre : rk_re ((σ 26)) ((σ 29)) w = 1 := by
      unfold rk_re
      rw [if_neg (by omega), if_pos hk2]
    have hre' : rk_re (ft_un ((σ 26)) w 0) ((σ 29)) w = 0 := by
      unfold rk_re
      rw [ft_unS]
      rfl
    rcases S with ⟨a, b, c, rfl, rfl⟩ | ⟨a, rfl, rfl⟩
    · refine ⟨by rw [hre]; exact Nat.lt_of_le_of_lt (Nat.le_of_eq hre') (by decide), fun v hv => ⟨ft_unN hv, rfl, rfl, rfl⟩, ?_⟩
      generalize et : (σ 27) w = t at *
      by_cases e : t = s
      · subst e
        exact Or.inr (Or.inl ⟨hk2, rfl, a, ft_unS, c⟩)
      · have hts : s < t := by
          by_cases hlt : t < s
          · exact absurd (P t hlt).2 c
          · omega
        refine Or.inl ⟨ft_unN (by omega), ft_unN (by omega), ?_, ?_, fun h => ?_⟩
        · show rk_mn (if (σ 3 0) ≤ t then (σ 3 0) else t) (s + 1) = rk_mn ((σ 3 0)) (s + 1)
          unfold rk_mn
          repeat' split
          all_goals omega
        · show rk_mn (if (σ 4 0) ≤ t + 1 then (σ 4 0) else t + 1) (s + 1) = rk_mn ((σ 4 0)) (s + 1)
          unfold rk_mn
          repeat' split
          all_goals omega
        · exact ir_fr h (fun _ _ => rfl) (fun j hj hj2 => (ft_unN (by omega)).trans hj2) (fun _ _ _ _ => rfl) rr
    · exact ⟨by rw [hre]; exact Nat.lt_of_le_of_lt (Nat.le_of_eq hre') (by decide), fun v hv => ⟨ft_unN hv, rfl, rfl, rfl⟩, Or.inl ⟨rfl, rfl, rfl, rfl, id⟩⟩
  · obtain ⟨d1, d2, d3, d4, d5⟩ := h6 w hw hk1
    have hst1 := ((h3 w hw).2.2 hk1).1
    have hre : 2 ≤ rk_re ((σ 26)) ((σ 29)) w := by
      unfold rk_re
      rw [if_pos hk1]
      omega
    generalize et : (σ 27) w = t at *
    have hts : s ≤ t := by
      by_cases hlt : t < s
      · have := (P t hlt).1
        omega
      · omega
    obtain ⟨f1, f2, f3, f4⟩ := ft_fiF (w := w) h7 (show t < 8 by omega)
    have hrh : ft_rh σ s → ft_rh (ft_fi σ w t) s := fun h => ir_fr h (fun j hj => ft_unN (by omega)) (fun j hj hj2 => f1 j (by omega) hj2) (fun j c hj _ => if_neg (by omega)) rr
    have hnc : rk_mn (((ft_fi σ w t) 3 0)) (s + 1) = rk_mn ((σ 3 0)) (s + 1) := by
      show rk_mn (ft_nm ((σ 18) t) ((σ 3 0)) 8) (s + 1) = rk_mn ((σ 3 0)) (s + 1)
      have g1 := ft_nmL ((σ 18) t) ((σ 3 0)) 8
      have g2 : rk_mn ((σ 3 0)) (s + 1) ≤ ft_nm ((σ 18) t) ((σ 3 0)) 8 := by
        refine ft_nmG ?_ 8 (fun j hj hbj => ?_)
        · unfold rk_mn
          split <;> omega
        · have := (h7.1 t j (by omega) hj hbj).1
          unfold rk_mn
          split <;> omega
      unfold rk_mn at *
      split at g2
      · split <;> omega
      · split <;> omega
    obtain ⟨rfl, ⟨a, rfl⟩ | ⟨a, b, rfl⟩ | ⟨a, b, rfl⟩⟩ := S
    · refine ⟨?_, fun v hv => ⟨ft_unN hv, rfl, rfl, rfl⟩, ?_⟩
      · have : rk_re (ft_un ((σ 26)) w 0) ((σ 29)) w = 0 := by
          unfold rk_re
          rw [ft_unS]
          rfl
        exact Nat.lt_of_le_of_lt (Nat.le_of_eq this) (by omega)
      · by_cases e : t = s
        · subst e
          exact Or.inr (Or.inr ⟨hk1, rfl, f2, hrh⟩)
        · exact Or.inl ⟨(f3 s (by omega)).1, (f3 s (by omega)).2, hnc, rfl, hrh⟩
    · refine ⟨?_, fun v hv => ⟨(ft_unN hv).trans (ft_unN hv), ft_unN hv, ft_unN hv, rfl⟩, ?_⟩
      · have : rk_re (ft_un (ft_un ((σ 26)) w 0) w 2) ((σ 29)) w = 1 := by
          unfold rk_re
          rw [ft_unS]
          rfl
        exact Nat.lt_of_le_of_lt (Nat.le_of_eq this) (by omega)
      · by_cases e : t = s
        · subst e
          exact Or.inr (Or.inr ⟨hk1, rfl, f2, hrh⟩)
        · exact Or.inl ⟨(f3 s (by omega)).1, (f3 s (by omega)).2, hnc, rfl, hrh⟩
    · refine ⟨?_, fun v hv => ⟨ft_unN hv, rfl, rfl, rfl⟩, ?_⟩
      · have : rk_re (ft_un ((σ 26)) w 0) ((σ 29)) w = 0 := by
          unfold rk_re
          rw [ft_unS]
          rfl
        exact Nat.lt_of_le_of_lt (Nat.le_of_eq this) (by omega)
      · by_cases e : t = s
        · subst e
          exact Or.inr (Or.inr ⟨hk1, rfl, f2, hrh⟩)
        · refine Or.inl ⟨(f3 s (by omega)).1, (f3 s (by omega)).2, hnc, ?_, hrh⟩
          show rk_mn t (s + 1) = rk_mn ((σ 4 0)) (s + 1)
          unfold rk_mn
          repeat' split
          all_goals omega
  · obtain ⟨d1, d2, d3, d4, d5⟩ := h6 w hw hk1
    have hst1 := ((h3 w hw).2.2 hk1).1
    have hre : rk_re ((σ 26)) ((σ 29)) w = 15 - (σ 29) w := by
      unfold rk_re
      rw [if_pos hk1]
    generalize et : (σ 27) w = t at *
    have hl12 := hB.2.2.2.1 t (by omega)
    have hts : s ≤ t := by
      by_cases hlt : t < s
      · have := (P t hlt).1
        omega
      · omega
    rcases S with S | S | S
    · obtain ⟨p', z', e', o', R, V, U, rfl, rfl, c1, c2, _⟩ := S
      refine ⟨?_, fun v hv => ⟨rfl, rfl, rfl, ft_unN hv⟩, Or.inl ⟨rfl, rfl, rfl, rfl, id⟩⟩
      have : rk_re ((σ 26)) (ft_un ((σ 29)) w p') w = 15 - p' := by
        unfold rk_re
        rw [if_pos hk1, ft_unS]
      exact Nat.lt_of_le_of_lt (Nat.le_of_eq this) (by omega)
    · obtain ⟨c, fr, tn, x, R, rfl, rfl, c1, c2, c3, _⟩ := S
      refine ⟨?_, fun v hv => ⟨rfl, rfl, rfl, ft_unN hv⟩, Or.inl ⟨rfl, rfl, rfl, rfl, fun h => ?_⟩⟩
      · have : rk_re ((σ 26)) (ft_un ((σ 29)) w ((σ 29) w + 1)) w = 15 - ((σ 29) w + 1) := by
          unfold rk_re
          rw [if_pos hk1, ft_unS]
        exact Nat.lt_of_le_of_lt (Nat.le_of_eq this) (by omega)
      · have hrs := (h2 s (by omega)).2.2.2.1
        by_cases e : t = s
        · subst e
          intro k hk
          have hk' : k < ft_un ((σ 19)) t ((σ 19) t + 1) t := hk
          rw [ft_unS] at hk'
          show ft_nb ((σ 15)) (ft_un ((σ 20)) (12 * t + (σ 19) t) c (12 * t + k)) t = ft_un ((σ 21)) (12 * t + (σ 19) t) fr (12 * t + k) ∧ ∀ f, ft_un ((σ 21)) (12 * t + (σ 19) t) fr (12 * t + k) = f + 1 → (σ 16) f = 2 ∧ (σ 14) (8 * ft_un ((σ 20)) (12 * t + (σ 19) t) c (12 * t + k) + f) = ft_un ((σ 22)) (12 * t + (σ 19) t) tn (12 * t + k)
          by_cases ek : k = (σ 19) t
          · subst ek
            rw [ft_unS, ft_unS, ft_unS]
            refine ⟨c2, fun f hf => ?_⟩
            rcases c3 with ⟨e1, _⟩ | ⟨f', e1, e2, e3, e4, _⟩
            · omega
            · have ef : f' = f := by omega
              subst ef
              exact ⟨e3, e4.symm⟩
          · rw [ft_unN (by omega), ft_unN (by omega), ft_unN (by omega)]
            exact h k (by omega)
        · exact ir_fr2 h (fun _ _ => rfl) (fun j _ hj2 => hj2) (fun _ _ _ _ => rfl) rr (ft_unN (by omega)) (fun k hk => ⟨ft_unN (by omega), ft_unN (by omega), ft_unN (by omega)⟩)
    · obtain ⟨f, hf, hfs, _, rfl, rfl⟩ := S
      have hne : s ≠ t := fun e => by
        subst e
        exact hfs (P f hf).1
      refine ⟨?_, fun v hv => ⟨ft_unN hv, rfl, rfl, ft_unN hv⟩, Or.inl ⟨ft_unN hne, rfl, rfl, rfl, fun h => ?_⟩⟩
      · have : rk_re (ft_un ((σ 26)) w 0) (ft_un ((σ 29)) w ((σ 29) w + 1)) w = 0 := by
          unfold rk_re
          rw [ft_unS]
          rfl
        exact Nat.lt_of_le_of_lt (Nat.le_of_eq this) (by omega)
      · exact ir_fr h (fun _ _ => rfl) (fun j hj hj2 => (ft_unN (by omega)).trans hj2) (fun _ _ _ _ => rfl) rr
/-- an idle worker -/
theorem rk_idle {σ : Nat → Nat → Nat} {ρ : Nat → Nat → Int32} {w s : Nat} {σ' : Nat → Nat → Nat} {ρ' : Nat → Nat → Int32} (I : iv_I 1 iv_N σ ρ) (hs : s < (σ 0 0)) (h0 : (σ 26) w = 0) (S : ft_Stp σ ρ w σ' ρ') :
    rk_re ((σ' 26)) ((σ' 29)) w ≤ 15 ∧ rk_Fr σ w σ' ∧ ((σ' 17) s = (σ 17) s) ∧
    (((σ 0 0) ≤ (σ 3 0) ∧ (σ 0 0) ≤ (σ 4 0) ∧ σ' = σ)
    ∨ ((σ 4 0) < (σ 3 0) ∧ (σ 4 0) < (σ 0 0) ∧ (σ' 4 0) = (σ 4 0) + 1 ∧ (σ' 3 0) = (σ 3 0) ∧ (σ' 16) s = (σ 16) s ∧ (ft_rh σ s → ft_rh σ' s) ∧ ((σ 16) ((σ 4 0)) = 2 → (σ' 26) w = 2 ∧ (σ' 27) w = (σ 4 0) ∧ (σ' 28) w = (σ 17) ((σ 4 0))))
    ∨ ((σ 3 0) ≤ (σ 4 0) ∧ (σ 3 0) < (σ 0 0) ∧ (σ' 4 0) = (σ 4 0) ∧ (σ' 3 0) = (σ 3 0) + 1 ∧ ((σ 16) ((σ 3 0)) ≠ 0 ∨ (σ 3 0) ≠ s) ∧ (σ' 16) s = (σ 16) s ∧ (ft_rh σ s → ft_rh σ' s))
    ∨ ((σ 3 0) = s ∧ (σ 16) s = 0 ∧ (σ' 16) s = 1 ∧ (σ' 26) w = 1 ∧ (σ' 27) w = s ∧ (σ' 29) w = 0 ∧ ft_rh σ' s)) := by
  obtain ⟨hB, h1, h2, h3, h4, h5, h6, h7, h8, h9, h10, h11, h12, h13⟩ := I
  have h8c := hB.1
  have rr : ∀ k, k < (σ 19) s → (σ 20) (12 * s + k) < 16 ∧ (σ 21) (12 * s + k) ≤ s := fun k hk => by
    have := h10 s k (by omega) hk
    exact ⟨this.1, this.2.1⟩
  have hr15 : ∀ tk ps : Nat → Nat, rk_re tk ps w ≤ 15 := by
    intro tk ps
    unfold rk_re
    repeat' split
    all_goals omega
  refine ⟨hr15 _ _, ?_⟩
  rcases S with ⟨_, S⟩ | ⟨hk2, S⟩ | ⟨hk1, hl, S⟩ | ⟨hk1, hl, S⟩
  · rcases S with ⟨a, b, rfl, rfl⟩ | ⟨a, b, c, rfl, rfl⟩ | ⟨a, b, c, rfl, rfl⟩ | ⟨a, b, c, rfl, rfl⟩ | ⟨a, b, c, rfl, rfl⟩
    · exact ⟨fun v hv => ⟨rfl, rfl, rfl, rfl⟩, rfl, Or.inl ⟨a, b, rfl⟩⟩
    · exact ⟨fun v hv => ⟨ft_unN hv, ft_unN hv, ft_unN hv, rfl⟩, rfl, Or.inr (Or.inl ⟨a, b, rfl, rfl, rfl, id, fun _ => ⟨ft_unS, ft_unS, ft_unS⟩⟩)⟩
    · exact ⟨fun v hv => ⟨rfl, rfl, rfl, rfl⟩, rfl, Or.inr (Or.inl ⟨a, b, rfl, rfl, rfl, id, fun h => absurd h c⟩)⟩
    · refine ⟨fun v hv => ⟨ft_unN hv, ft_unN hv, ft_unN hv, ft_unN hv⟩, rfl, ?_⟩
      by_cases e : (σ 3 0) = s
      · refine Or.inr (Or.inr (Or.inr ⟨e, by rw [← e]; exact c, ?_, ft_unS, ft_unS.trans e, ft_unS, ?_⟩))
        · rw [← e]
          exact ft_unS
        · intro k hk
          have hk' : k < ft_un ((σ 19)) ((σ 3 0)) 0 s := hk
          rw [← e, ft_unS] at hk'
          omega
      · refine Or.inr (Or.inr (Or.inl ⟨a, b, rfl, rfl, Or.inr e, ft_unN (fun h => e h.symm), fun h => ?_⟩))
        exact ir_fr2 h (fun _ _ => rfl) (fun j _ hj2 => (ft_unN (fun h => by subst h; omega)).trans hj2) (fun _ _ _ _ => rfl) rr (ft_unN (fun h => e h.symm)) (fun _ _ => ⟨rfl, rfl, rfl⟩)
    · exact ⟨fun v hv => ⟨rfl, rfl, rfl, rfl⟩, rfl, Or.inr (Or.inr (Or.inl ⟨a, b, rfl, rfl, Or.inl c, rfl, id⟩))⟩
  · omega
  · omega
  · omega
end
section
/-! the rank: every tick makes it smaller until all is done -/
def rk_sum (f : Nat → Nat) : Nat → Nat
  | 0 => 0
  | n + 1 => rk_sum f n + f n
theorem rk_sumE {f f' : Nat → Nat} : ∀ n, (∀ v, v < n → f' v = f v) → rk_sum f' n = rk_sum f n := by
  intro n
  induction n with
  | zero => intro _; rfl
  | succ n ih =>
    intro h
    show rk_sum f' n + f' n = rk_sum f n + f n
    rw [ih (fun v hv => h v (by omega)), h n (by omega)]
theorem rk_sumU {f f' : Nat → Nat} {w : Nat} (h : ∀ v, v ≠ w → f' v = f v) : ∀ n, w < n → rk_sum f' n + f w = rk_sum f n + f' w := by
  intro n
  induction n with
  | zero => intro hw; omega
  | succ n ih =>
    intro hw
    show rk_sum f' n + f' n + f w = rk_sum f n + f n + f' w
    by_cases e : w = n
    · subst e
      rw [rk_sumE w (fun v hv => h v (by omega))]
      omega
    · have := ih (by omega)
      rw [h n (fun q => e q.symm)]
      omega
theorem rk_sumL {f : Nat → Nat} {b : Nat} (h : ∀ v, f v ≤ b) : ∀ n, rk_sum f n ≤ b * n := by
  intro n
  induction n with
  | zero => exact Nat.le_refl _
  | succ n ih =>
    have := h n
    show rk_sum f n + f n ≤ b * (n + 1)
    rw [Nat.mul_succ]
    omega
theorem rk_re15 (tk ps : Nat → Nat) (w : Nat) : rk_re tk ps w ≤ 15 := by
  unfold rk_re
  repeat' split
  all_goals omega
def rk_T (σ : Nat → Nat → Nat) : Nat := rk_sum (rk_re ((σ 26)) ((σ 29))) ((σ 2 0))
def rk_M (σ : Nat → Nat → Nat) (s : Nat) : Nat := (s + 1 - rk_mn ((σ 4 0)) (s + 1)) + (s + 1 - rk_mn ((σ 3 0)) (s + 1))
/-- worker w's turn comes in d ticks -/
def rk_D (wk clk w d : Nat) : Prop := 1 ≤ d ∧ d ≤ 24 ∧ ∃ q, clk + d = 4 * (q * wk + w)
theorem rk_Dex {wk w : Nat} (clk : Nat) (h1 : wk ≤ 6) (hw : w < wk) : ∃ d, rk_D wk clk w d := by
  have e1 := Nat.div_add_mod (clk / 4 + wk - w) wk
  have e2 := Nat.mod_lt (clk / 4 + wk - w) (show wk > 0 by omega)
  generalize (clk / 4 + wk - w) / wk = q at e1
  rw [Nat.mul_comm] at e1
  obtain ⟨y, hy⟩ : ∃ y, y = q * wk := ⟨_, rfl⟩
  rw [← hy] at e1
  refine ⟨4 * (y + w) - clk, by omega, by omega, q, ?_⟩
  rw [← hy]
  omega
/-- one tick nearer -/
theorem rk_Ds {wk clk w d : Nat} (h : rk_D wk clk w d) (hd : d ≠ 1) : rk_D wk (clk + 1) w (d - 1) := by
  obtain ⟨a, b, q, e⟩ := h
  exact ⟨by omega, by omega, q, by omega⟩
theorem rk_D1 {wk clk w w' d : Nat} (h : rk_D wk clk w d) (hd : d = 1) (hw : w < wk) (hr : (clk + 1) % 4 = 0 → w' = (clk + 1) / 4 % wk) : w' = w := by
  obtain ⟨a, b, q, e⟩ := h
  subst hd
  have e1 : (clk + 1) / 4 = q * wk + w := by omega
  rw [hr (by omega), e1, Nat.add_comm, Nat.add_mul_mod_self_right, Nat.mod_eq_of_lt hw]
/-- the rank while s is the first that isn't stable -/
def rk_S (ck : Nat) (σ : Nat → Nat → Nat) (s m : Nat) : Prop :=
  ((σ 16) s = 1 ∧ ∃ w0 d i, w0 < (σ 2 0) ∧ (σ 26) w0 = 1 ∧ (σ 27) w0 = s ∧ rk_D ((σ 2 0)) ck w0 d ∧ (i = 4 ∨ (i = 0 ∧ ft_rh σ s)) ∧ m = 20000 * ((σ 0 0) - s) + 400 * i + 24 * rk_re ((σ 26)) ((σ 29)) w0 + d)
  ∨ ((σ 16) s = 2 ∧ (σ 4 0) ≤ s ∧ m = 20000 * ((σ 0 0) - s) + 1200 + 16 * rk_M σ s + rk_T σ)
  ∨ ((σ 16) s = 2 ∧ ∃ w0 d, w0 < (σ 2 0) ∧ (σ 26) w0 = 2 ∧ (σ 27) w0 = s ∧ (σ 28) w0 = (σ 17) s ∧ rk_D ((σ 2 0)) ck w0 d ∧ m = 20000 * ((σ 0 0) - s) + 800 + d)
  ∨ ((σ 16) s = 0 ∧ m = 20000 * ((σ 0 0) - s) + 400 + 16 * rk_M σ s + rk_T σ)
/-- the rank when all are stable -/
def rk_Y (σ : Nat → Nat → Nat) : Nat := 16 * (((σ 0 0) - (σ 3 0)) + ((σ 0 0) - (σ 4 0))) + rk_T σ
def rk_Z (ck : Nat) (σ : Nat → Nat → Nat) (m : Nat) : Prop := ∃ d, m = 30 * rk_Y σ + d ∧ d ≤ 24 ∧ ((σ 3 0) < (σ 0 0) ∨ (σ 4 0) < (σ 0 0) ∨ (∃ w0, w0 < (σ 2 0) ∧ (σ 26) w0 ≠ 0 ∧ rk_D ((σ 2 0)) ck w0 d) ∨ ft_AD σ)
def rk_K (ck : Nat) (σ : Nat → Nat → Nat) (m : Nat) : Prop := ∃ s, rk_P σ s ∧ ((s < (σ 0 0) ∧ rk_S ck σ s m) ∨ (s = (σ 0 0) ∧ rk_Z ck σ m))
theorem rk_TL {σ : Nat → Nat → Nat} (h6 : (σ 2 0) ≤ 6) : rk_T σ ≤ 90 := by
  have := rk_sumL (rk_re15 ((σ 26)) ((σ 29))) ((σ 2 0))
  unfold rk_T
  omega
theorem rk_ML {σ : Nat → Nat → Nat} {s : Nat} (h : s < 8) : rk_M σ s ≤ 16 := by
  unfold rk_M
  omega
theorem rk_Zex (ck : Nat) {σ : Nat → Nat → Nat} (h6 : (σ 2 0) ≤ 6) : ∃ m, m ≤ 30 * rk_Y σ + 24 ∧ rk_Z ck σ m := by
  by_cases h1 : (σ 3 0) < (σ 0 0)
  · exact ⟨_, by omega, 0, rfl, by omega, Or.inl h1⟩
  by_cases h2 : (σ 4 0) < (σ 0 0)
  · exact ⟨_, by omega, 0, rfl, by omega, Or.inr (Or.inl h2)⟩
  by_cases h3 : ∃ w, w < (σ 2 0) ∧ (σ 26) w ≠ 0
  · obtain ⟨w, hw, hk⟩ := h3
    obtain ⟨d, hd⟩ := rk_Dex ck h6 hw
    have := hd.2.1
    exact ⟨_, by omega, d, rfl, by omega, Or.inr (Or.inr (Or.inl ⟨w, hw, hk, hd⟩))⟩
  · refine ⟨_, by omega, 0, rfl, by omega, Or.inr (Or.inr (Or.inr ⟨by omega, by omega, fun w hw => ?_⟩))⟩
    by_cases hk : (σ 26) w = 0
    · exact hk
    · exact absurd ⟨w, hw, hk⟩ h3
theorem rk_ex (ck : Nat) {q : Nat} {σ : Nat → Nat → Nat} {ρ : Nat → Nat → Int32} (I : iv_I q iv_N σ ρ) : ∀ n s, s + n = (σ 0 0) → rk_P σ s → ∃ m, m ≤ 20000 * ((σ 0 0) - s) + 19999 ∧ rk_K ck σ m ∧ (s < (σ 0 0) → (σ 16) s = 2 → m < 20000 * ((σ 0 0) - s) + 1600) ∧ (s < (σ 0 0) → (σ 16) s = 0 → m < 20000 * ((σ 0 0) - s) + 800) := by
  obtain ⟨hB, h1, h2, h3, h4, h5, h6, h7, h8, h9, h10, h11, h12, h13⟩ := I
  have hT := rk_TL hB.2.2.1
  have h8c := hB.1
  intro n
  induction n with
  | zero =>
    intro s hs P
    obtain ⟨m, hm, hz⟩ := rk_Zex ck hB.2.2.1
    refine ⟨m, ?_, ⟨s, P, Or.inr ⟨by omega, hz⟩⟩, fun h => by omega, fun h => by omega⟩
    unfold rk_Y at hm
    omega
  | succ n ih =>
    intro s hs P
    have hM := rk_ML (σ := σ) (s := s) (by omega)
    have h4' := (h2 s (by omega)).1
    have hsc : s < (σ 0 0) := by omega
    have hcase : (σ 16) s = 0 ∨ (σ 16) s = 1 ∨ (σ 16) s = 2 ∨ (σ 16) s = 3 := by omega
    rcases hcase with h | h | h | h
    · exact ⟨_, by omega, ⟨s, P, Or.inl ⟨hsc, Or.inr (Or.inr (Or.inr ⟨h, rfl⟩))⟩⟩, fun _ e => by omega, fun _ _ => by omega⟩
    · obtain ⟨w, hw, a, b⟩ := h5 s hsc h
      obtain ⟨d, hd⟩ := rk_Dex ck hB.2.2.1 hw
      have := hd.2.1
      have := rk_re15 ((σ 26)) ((σ 29)) w
      exact ⟨_, by omega, ⟨s, P, Or.inl ⟨hsc, Or.inl ⟨h, w, d, 4, hw, a, b, hd, Or.inl rfl, rfl⟩⟩⟩, fun _ e => by omega, fun _ e => by omega⟩
    · rcases h9 s hsc h with g | g | ⟨w, hw, a, b, c⟩ | g
      · exact g.elim
      · exact ⟨_, by omega, ⟨s, P, Or.inl ⟨hsc, Or.inr (Or.inl ⟨h, g, rfl⟩)⟩⟩, fun _ _ => by omega, fun _ e => by omega⟩
      · obtain ⟨d, hd⟩ := rk_Dex ck hB.2.2.1 hw
        have := hd.2.1
        exact ⟨_, by omega, ⟨s, P, Or.inl ⟨hsc, Or.inr (Or.inr (Or.inl ⟨h, w, d, hw, a, b, c, hd, rfl⟩))⟩⟩, fun _ _ => by omega, fun _ e => by omega⟩
      · have P1 : rk_P σ (s + 1) := by
          intro t ht
          by_cases e : t = s
          · subst e
            exact ⟨h, g⟩
          · exact P t (by omega)
        obtain ⟨m, hm, K, _, _⟩ := ih (s + 1) (by omega) P1
        exact ⟨m, by omega, K, fun _ _ => by omega, fun _ e => by omega⟩
    · obtain ⟨b, hb, hbit⟩ := h7.2.1 s hsc h
      exact absurd (P b hb).1 (h7.1 b s (by omega) (by omega) hbit).2.2.2
/-- what is stable stays so -/
theorem rk_keep {σ : Nat → Nat → Nat} {ρ : Nat → Nat → Int32} {w s : Nat} {σ' : Nat → Nat → Nat} {ρ' : Nat → Nat → Int32} (I : iv_I 1 iv_N σ ρ) (hw : w < (σ 2 0)) (P : rk_P σ s) (hs : s ≤ (σ 0 0)) (S : ft_Stp σ ρ w σ' ρ') : rk_P σ' s := by
  intro t ht
  obtain ⟨p1, p2⟩ := P t ht
  by_cases h0 : (σ 26) w = 0
  · obtain ⟨_, _, _, h | h | h | h⟩ := rk_idle I (s := t) (by omega) h0 S
    · rw [h.2.2]
      exact ⟨p1, p2⟩
    · exact ⟨h.2.2.2.2.1.trans p1, h.2.2.2.2.2.1 p2⟩
    · exact ⟨h.2.2.2.2.2.1.trans p1, h.2.2.2.2.2.2 p2⟩
    · have := h.2.1
      omega
  · obtain ⟨_, _, h | h | h⟩ := rk_busy I (s := t) hw (fun j hj => P j (by omega)) (by omega) h0 S
    · exact ⟨h.1.trans p1, h.2.2.2.2 p2⟩
    · exact absurd p2 h.2.2.2.2
    · exact ⟨h.2.2.1, h.2.2.2 p2⟩
end
section
theorem rk_TU {σ σ' : Nat → Nat → Nat} {w : Nat} (F : rk_Fr σ w σ') (hw : w < (σ 2 0)) (ew : (σ' 2 0) = (σ 2 0)) : rk_T σ' + rk_re ((σ 26)) ((σ 29)) w = rk_T σ + rk_re ((σ' 26)) ((σ' 29)) w := by
  unfold rk_T
  rw [ew]
  refine rk_sumU (fun v hv => ?_) _ hw
  obtain ⟨a, b, c, d⟩ := F v hv
  unfold rk_re
  rw [a, d]
theorem rk_P1 {σ : Nat → Nat → Nat} {s : Nat} (P : rk_P σ s) (h : (σ 16) s = 2) (g : ft_rh σ s) : rk_P σ (s + 1) := by
  intro t ht
  by_cases e : t = s
  · subst e
    exact ⟨h, g⟩
  · exact P t (by omega)
theorem rk_re0 {tk ps : Nat → Nat} {w : Nat} (h : tk w = 0) : rk_re tk ps w = 0 := by
  unfold rk_re
  rw [h]
  rfl
/-- all are stable -/
theorem rk_tZ {ck m : Nat} {σ : Nat → Nat → Nat} {ρ : Nat → Nat → Int32} {w : Nat} {σ' : Nat → Nat → Nat} {ρ' : Nat → Nat → Int32} (I : iv_I 1 iv_N σ ρ) (P : rk_P σ ((σ 0 0))) (P' : rk_P σ' ((σ 0 0))) (Z : rk_Z ck σ m) (nAD : ¬ ft_AD σ) (hw : w < (σ 2 0)) (hr : (ck + 1) % 4 = 0 → w = (ck + 1) / 4 % (σ 2 0)) (S : ft_Stp σ ρ w σ' ρ') : ∃ m', m' < m ∧ rk_K (ck + 1) σ' m' := by
  obtain ⟨ec, _, ew, _⟩ := it_fx S
  have h6 := I.1.2.2.1
  obtain ⟨d, hm, hd, hz⟩ := Z
  have fin : rk_Y σ' < rk_Y σ → ∃ m', m' < m ∧ rk_K (ck + 1) σ' m' := by
    intro hlt
    obtain ⟨m', a, b⟩ := rk_Zex (ck + 1) (σ := σ') (by omega)
    exact ⟨m', by omega, (σ 0 0), P', Or.inr ⟨ec.symm, b⟩⟩
  have h3 := I.2.2.2.1
  rcases S with ⟨h0, S⟩ | ⟨hk2, S⟩ | ⟨hk1, hl, S⟩ | ⟨hk1, hl, S⟩
  · have r0 : rk_re ((σ 26)) ((σ 29)) w = 0 := rk_re0 h0
    rcases S with ⟨a, b, rfl, rfl⟩ | ⟨a, b, c, rfl, rfl⟩ | ⟨a, b, c, rfl, rfl⟩ | ⟨a, b, c, rfl, rfl⟩ | ⟨a, b, c, rfl, rfl⟩
    · rcases hz with h | h | ⟨w0, hw0, hk, hD⟩ | h
      · omega
      · omega
      · have hne : w ≠ w0 := fun e => by subst e; exact hk h0
        have hd1 : d ≠ 1 := fun e => hne (rk_D1 hD e hw0 hr)
        have := hD.1
        exact ⟨_, by omega, _, P', Or.inr ⟨rfl, d - 1, rfl, by omega, Or.inr (Or.inr (Or.inl ⟨w0, hw0, hk, rk_Ds hD hd1⟩))⟩⟩
      · exact absurd h nAD
    · refine fin ?_
      have T := rk_TU (σ := σ) (σ' := ft_bc (ft_sc σ 4 ((σ 4 0) + 1)) w ((σ 4 0))) (w := w) (fun v hv => ⟨ft_unN hv, ft_unN hv, ft_unN hv, rfl⟩) hw rfl
      have := rk_re15 (((ft_bc (ft_sc σ 4 ((σ 4 0) + 1)) w ((σ 4 0))) 26)) (((ft_bc (ft_sc σ 4 ((σ 4 0) + 1)) w ((σ 4 0))) 29)) w
      show 16 * (((σ 0 0) - (σ 3 0)) + ((σ 0 0) - ((σ 4 0) + 1))) + rk_T (ft_bc (ft_sc σ 4 ((σ 4 0) + 1)) w ((σ 4 0))) < 16 * (((σ 0 0) - (σ 3 0)) + ((σ 0 0) - (σ 4 0))) + rk_T σ
      omega
    · exact absurd (P _ b).1 c
    · have := (P _ b).1
      omega
    · refine fin ?_
      show 16 * (((σ 0 0) - ((σ 3 0) + 1)) + ((σ 0 0) - (σ 4 0))) + rk_T σ < 16 * (((σ 0 0) - (σ 3 0)) + ((σ 0 0) - (σ 4 0))) + rk_T σ
      omega
  · have htc := ((h3 w hw).2.1 (by omega)).1
    rcases S with ⟨a, b, c, rfl, rfl⟩ | ⟨a, rfl, rfl⟩
    · exact absurd (P _ htc).2 c
    · refine fin ?_
      have T := rk_TU (σ := σ) (σ' := ft_id σ w) (w := w) (fun v hv => ⟨ft_unN hv, rfl, rfl, rfl⟩) hw rfl
      have r0 : rk_re (((ft_id σ w) 26)) (((ft_id σ w) 29)) w = 0 := rk_re0 ft_unS
      have r1 : rk_re ((σ 26)) ((σ 29)) w = 1 := by
        unfold rk_re
        rw [hk2]
        rfl
      show 16 * (((σ 0 0) - (σ 3 0)) + ((σ 0 0) - (σ 4 0))) + rk_T (ft_id σ w) < 16 * (((σ 0 0) - (σ 3 0)) + ((σ 0 0) - (σ 4 0))) + rk_T σ
      omega
  · have htc := ((h3 w hw).2.1 (by omega)).1
    have := (P _ htc).1
    have := ((h3 w hw).2.2 hk1).1
    omega
  · have htc := ((h3 w hw).2.1 (by omega)).1
    have := (P _ htc).1
    have := ((h3 w hw).2.2 hk1).1
    omega
section
variable {ck m s : Nat} {σ : Nat → Nat → Nat} {ρ : Nat → Nat → Int32} {w : Nat} {σ' : Nat → Nat → Nat} {ρ' : Nat → Nat → Int32}
/-- s is being carried out -/
theorem rk_t1 (I : iv_I 1 iv_N σ ρ) (I' : iv_I 0 iv_N σ' ρ') (P : rk_P σ s) (P' : rk_P σ' s) (hs : s < (σ 0 0)) (hw : w < (σ 2 0)) (hr : (ck + 1) % 4 = 0 → w = (ck + 1) / 4 % (σ 2 0)) (S : ft_Stp σ ρ w σ' ρ')
    (Z : (σ 16) s = 1 ∧ ∃ w0 d i, w0 < (σ 2 0) ∧ (σ 26) w0 = 1 ∧ (σ 27) w0 = s ∧ rk_D ((σ 2 0)) ck w0 d ∧ (i = 4 ∨ (i = 0 ∧ ft_rh σ s)) ∧ m = 20000 * ((σ 0 0) - s) + 400 * i + 24 * rk_re ((σ 26)) ((σ 29)) w0 + d) : ∃ m', m' < m ∧ rk_K (ck + 1) σ' m' := by
  obtain ⟨ec, _, ew, _⟩ := it_fx S
  have h6 := I.1.2.2.1
  obtain ⟨hst, w0, d, i, hw0, hk0, hf0, hD, hi, hm⟩ := Z
  have hs' : s < (σ' 0 0) := by omega
  have hd1 := hD.1
  have h4 := I.2.2.2.2.1
  have h5' := I'.2.2.2.2.2.1
  by_cases hb : (σ 26) w = 0
  · have hne : w0 ≠ w := fun e => by subst e; omega
    have hdn : d ≠ 1 := fun e => hne (rk_D1 hD e hw0 hr).symm
    obtain ⟨_, F, _, Q⟩ := rk_idle I hs hb S
    obtain ⟨f1, f2, f3, f4⟩ := F w0 hne
    have hre : rk_re ((σ' 26)) ((σ' 29)) w0 = rk_re ((σ 26)) ((σ 29)) w0 := by
      unfold rk_re
      rw [f1, f4]
    have go : (σ' 16) s = (σ 16) s → (ft_rh σ s → ft_rh σ' s) → ∃ m', m' < m ∧ rk_K (ck + 1) σ' m' := by
      intro e1 e2
      refine ⟨_, ?_, s, P', Or.inl ⟨hs', Or.inl ⟨e1.trans hst, w0, d - 1, i, by omega, f1.trans hk0, f2.trans hf0, by rw [ew]; exact rk_Ds hD hdn, hi.imp id (fun h => ⟨h.1, e2 h.2⟩), rfl⟩⟩⟩
      rw [hre, ec]
      omega
    rcases Q with h | h | h | h
    · exact go (by rw [h.2.2]) (by rw [h.2.2]; exact id)
    · exact go h.2.2.2.2.1 h.2.2.2.2.2.1
    · exact go h.2.2.2.2.2.1 h.2.2.2.2.2.2
    · have := h.2.1
      omega
  · obtain ⟨hlt, F, Q⟩ := rk_busy I hw P hs hb S
    by_cases hne : w = w0
    · subst hne
      rcases Q with h | h | h
      · obtain ⟨v, hv, a, b⟩ := h5' s hs' (h.1.trans hst)
        have hvw : v = w := by
          by_cases e : v = w
          · exact e
          · obtain ⟨f1, f2, _⟩ := F v e
            exact h4 v w (by omega) hw (f1.symm.trans a) hk0 ((f2.symm.trans b).trans hf0.symm)
        subst hvw
        obtain ⟨d', hD'⟩ := rk_Dex (wk := (σ' 2 0)) (w := v) (ck + 1) (by omega) (by omega)
        have := hD'.2.1
        refine ⟨_, ?_, s, P', Or.inl ⟨hs', Or.inl ⟨h.1.trans hst, v, d', i, by omega, a, b, hD', hi.imp id (fun g => ⟨g.1, h.2.2.2.2 g.2⟩), rfl⟩⟩⟩
        rw [ec]
        omega
      · omega
      · rcases hi with hi | ⟨hi, hrh⟩
        · obtain ⟨m', a, b, c, _⟩ := rk_ex (ck + 1) I' ((σ' 0 0) - s) s (by omega) P'
          have := c hs' h.2.2.1
          exact ⟨m', by omega, b⟩
        · obtain ⟨m', a, b, c, _⟩ := rk_ex (ck + 1) I' ((σ' 0 0) - (s + 1)) (s + 1) (by omega) (rk_P1 P' h.2.2.1 (h.2.2.2 hrh))
          exact ⟨m', by omega, b⟩
    · have hdn : d ≠ 1 := fun e => hne (rk_D1 hD e hw0 hr)
      obtain ⟨f1, f2, f3, f4⟩ := F w0 (fun e => hne e.symm)
      have hre : rk_re ((σ' 26)) ((σ' 29)) w0 = rk_re ((σ 26)) ((σ 29)) w0 := by
        unfold rk_re
        rw [f1, f4]
      rcases Q with h | h | h
      · refine ⟨_, ?_, s, P', Or.inl ⟨hs', Or.inl ⟨h.1.trans hst, w0, d - 1, i, by omega, f1.trans hk0, f2.trans hf0, by rw [ew]; exact rk_Ds hD hdn, hi.imp id (fun g => ⟨g.1, h.2.2.2.2 g.2⟩), rfl⟩⟩⟩
        rw [hre, ec]
        omega
      · omega
      · exact absurd (h4 w w0 hw hw0 h.1 hk0 (h.2.1.trans hf0.symm)) hne
/-- a check of s is due -/
theorem rk_t2 (I : iv_I 1 iv_N σ ρ) (I' : iv_I 0 iv_N σ' ρ') (P : rk_P σ s) (P' : rk_P σ' s) (hs : s < (σ 0 0)) (hw : w < (σ 2 0)) (S : ft_Stp σ ρ w σ' ρ')
    (Z : (σ 16) s = 2 ∧ (σ 4 0) ≤ s ∧ m = 20000 * ((σ 0 0) - s) + 1200 + 16 * rk_M σ s + rk_T σ) : ∃ m', m' < m ∧ rk_K (ck + 1) σ' m' := by
  obtain ⟨ec, _, ew, _⟩ := it_fx S
  have h6 := I.1.2.2.1
  obtain ⟨hst, hnk, hm⟩ := Z
  have hs' : s < (σ' 0 0) := by omega
  have stay : (σ' 16) s = 2 → (σ' 4 0) ≤ s → 16 * rk_M σ' s + rk_T σ' < 16 * rk_M σ s + rk_T σ → ∃ m', m' < m ∧ rk_K (ck + 1) σ' m' := by
    intro a b c
    refine ⟨_, ?_, s, P', Or.inl ⟨hs', Or.inr (Or.inl ⟨a, b, rfl⟩)⟩⟩
    rw [ec]
    omega
  by_cases hb : (σ 26) w = 0
  · obtain ⟨r15, F, hu, Q⟩ := rk_idle I hs hb S
    have T := rk_TU F hw ew
    have r0 : rk_re ((σ 26)) ((σ 29)) w = 0 := rk_re0 hb
    rcases Q with h | ⟨q1, q2, q3, q4, q5, q6, q7⟩ | ⟨q1, q2, q3, q4, q5, q6, q7⟩ | h
    · omega
    · by_cases e : (σ 4 0) = s
      · rw [e] at q7
        obtain ⟨a, b, c⟩ := q7 hst
        obtain ⟨d', hD'⟩ := rk_Dex (wk := (σ' 2 0)) (w := w) (ck + 1) (by omega) (by omega)
        have := hD'.2.1
        refine ⟨_, ?_, s, P', Or.inl ⟨hs', Or.inr (Or.inr (Or.inl ⟨q5.trans hst, w, d', by omega, a, b, c.trans hu.symm, hD', rfl⟩))⟩⟩
        rw [ec]
        omega
      · refine stay (q5.trans hst) (by omega) ?_
        have : rk_M σ' s + 1 = rk_M σ s := by
          unfold rk_M rk_mn
          rw [q3, q4, if_pos (show (σ 4 0) + 1 ≤ s + 1 by omega), if_pos (show (σ 4 0) ≤ s + 1 by omega)]
          omega
        omega
    · refine stay (q6.trans hst) (by omega) ?_
      have : rk_M σ' s + 1 = rk_M σ s := by
        unfold rk_M rk_mn
        rw [q3, q4, if_pos (show (σ 3 0) + 1 ≤ s + 1 by omega), if_pos (show (σ 3 0) ≤ s + 1 by omega)]
        omega
      omega
    · have := h.2.1
      omega
  · obtain ⟨hlt, F, Q⟩ := rk_busy I hw P hs hb S
    have T := rk_TU F hw ew
    rcases Q with ⟨q1, q2, q3, q4, q5⟩ | h | h
    · refine stay (q1.trans hst) ?_ ?_
      · unfold rk_mn at q4
        rw [if_pos (show (σ 4 0) ≤ s + 1 by omega)] at q4
        split at q4 <;> omega
      · have : rk_M σ' s = rk_M σ s := by
          unfold rk_M
          rw [q3, q4]
        omega
    · obtain ⟨m', a, b, _, c⟩ := rk_ex (ck + 1) I' ((σ' 0 0) - s) s (by omega) P'
      have := c hs' h.2.2.2.1
      exact ⟨m', by clear stay; omega, b⟩
    · have := ((I.2.2.2.1 w hw).2.2 h.1).1
      rw [h.2.1] at this
      omega
/-- a worker has the check of s -/
theorem rk_t3 (I : iv_I 1 iv_N σ ρ) (I' : iv_I 0 iv_N σ' ρ') (P : rk_P σ s) (P' : rk_P σ' s) (hs : s < (σ 0 0)) (hw : w < (σ 2 0)) (hr : (ck + 1) % 4 = 0 → w = (ck + 1) / 4 % (σ 2 0)) (S : ft_Stp σ ρ w σ' ρ')
    (Z : (σ 16) s = 2 ∧ ∃ w0 d, w0 < (σ 2 0) ∧ (σ 26) w0 = 2 ∧ (σ 27) w0 = s ∧ (σ 28) w0 = (σ 17) s ∧ rk_D ((σ 2 0)) ck w0 d ∧ m = 20000 * ((σ 0 0) - s) + 800 + d) : ∃ m', m' < m ∧ rk_K (ck + 1) σ' m' := by
  obtain ⟨ec, _, ew, _⟩ := it_fx S
  have h6 := I.1.2.2.1
  obtain ⟨hst, w0, d, hw0, hk0, hf0, ht0, hD, hm⟩ := Z
  have hs' : s < (σ' 0 0) := by omega
  have hd1 := hD.1
  have ab : (σ' 16) s = 0 → ∃ m', m' < m ∧ rk_K (ck + 1) σ' m' := by
    intro h
    obtain ⟨m', a, b, _, c⟩ := rk_ex (ck + 1) I' ((σ' 0 0) - s) s (by omega) P'
    have := c hs' h
    exact ⟨m', by omega, b⟩
  by_cases hne : w = w0
  · subst hne
    rcases S with ⟨h0, S⟩ | ⟨hk2, S⟩ | ⟨hk1, hl, S⟩ | ⟨hk1, hl, S⟩
    · omega
    · rcases S with ⟨a, b, c, rfl, rfl⟩ | ⟨a, rfl, rfl⟩
      · refine ab ?_
        rw [hf0]
        exact ft_unS
      · rw [hf0] at a
        rcases a with a | a
        · exact absurd ⟨hst, ht0.symm⟩ a
        · obtain ⟨m', x, b, c, _⟩ := rk_ex (ck + 1) I' ((σ 0 0) - (s + 1)) (s + 1) (show s + 1 + ((σ 0 0) - (s + 1)) = (σ 0 0) by omega) (rk_P1 P' hst a)
          have x' : m' ≤ 20000 * ((σ 0 0) - (s + 1)) + 19999 := x
          exact ⟨m', by clear ab; omega, b⟩
    · omega
    · omega
  · have hdn : d ≠ 1 := fun e => hne (rk_D1 hD e hw0 hr)
    have go : rk_Fr σ w σ' → (σ' 16) s = (σ 16) s → (σ' 17) s = (σ 17) s → ∃ m', m' < m ∧ rk_K (ck + 1) σ' m' := by
      intro F e1 e2
      obtain ⟨f1, f2, f3, f4⟩ := F w0 (fun e => hne e.symm)
      refine ⟨_, ?_, s, P', Or.inl ⟨hs', Or.inr (Or.inr (Or.inl ⟨e1.trans hst, w0, d - 1, by omega, f1.trans hk0, f2.trans hf0, (f3.trans ht0).trans e2.symm, by rw [ew]; exact rk_Ds hD hdn, rfl⟩))⟩⟩
      rw [ec]
      omega
    by_cases hb : (σ 26) w = 0
    · obtain ⟨_, F, hu, Q⟩ := rk_idle I hs hb S
      rcases Q with h | h | h | h
      · exact go F (by rw [h.2.2]) hu
      · exact go F h.2.2.2.2.1 hu
      · exact go F h.2.2.2.2.2.1 hu
      · have := h.2.1
        omega
    · obtain ⟨hlt, F, Q⟩ := rk_busy I hw P hs hb S
      rcases Q with h | h | h
      · exact go F h.1 h.2.1
      · exact ab h.2.2.2.1
      · have := ((I.2.2.2.1 w hw).2.2 h.1).1
        rw [h.2.1] at this
        omega
/-- s is ready -/
theorem rk_t4 (I : iv_I 1 iv_N σ ρ) (P : rk_P σ s) (P' : rk_P σ' s) (hs : s < (σ 0 0)) (hw : w < (σ 2 0)) (S : ft_Stp σ ρ w σ' ρ')
    (Z : (σ 16) s = 0 ∧ m = 20000 * ((σ 0 0) - s) + 400 + 16 * rk_M σ s + rk_T σ) : ∃ m', m' < m ∧ rk_K (ck + 1) σ' m' := by
  obtain ⟨ec, _, ew, _⟩ := it_fx S
  have h6 := I.1.2.2.1
  obtain ⟨hst, hm⟩ := Z
  have hs' : s < (σ' 0 0) := by omega
  have hnc := I.2.2.2.2.2.2.2.2.1 s hs hst
  have stay : (σ' 16) s = 0 → 16 * rk_M σ' s + rk_T σ' < 16 * rk_M σ s + rk_T σ → ∃ m', m' < m ∧ rk_K (ck + 1) σ' m' := by
    intro a c
    refine ⟨_, ?_, s, P', Or.inl ⟨hs', Or.inr (Or.inr (Or.inr ⟨a, rfl⟩))⟩⟩
    rw [ec]
    omega
  by_cases hb : (σ 26) w = 0
  · obtain ⟨r15, F, hu, Q⟩ := rk_idle I hs hb S
    have T := rk_TU F hw ew
    have r0 : rk_re ((σ 26)) ((σ 29)) w = 0 := rk_re0 hb
    rcases Q with h | ⟨q1, q2, q3, q4, q5, q6, q7⟩ | ⟨q1, q2, q3, q4, q5, q6, q7⟩ | ⟨q1, q2, q3, q4, q5, q6, q7⟩
    · omega
    · refine stay (q5.trans hst) ?_
      have : rk_M σ' s + 1 = rk_M σ s := by
        unfold rk_M rk_mn
        rw [q3, q4, if_pos (show (σ 4 0) + 1 ≤ s + 1 by omega), if_pos (show (σ 4 0) ≤ s + 1 by omega)]
        omega
      omega
    · have hne : (σ 3 0) ≠ s := fun e => by
        rw [e] at q5
        rcases q5 with h | h
        · exact h hst
        · exact h rfl
      refine stay (q6.trans hst) ?_
      have : rk_M σ' s + 1 = rk_M σ s := by
        unfold rk_M rk_mn
        rw [q3, q4, if_pos (show (σ 3 0) + 1 ≤ s + 1 by omega), if_pos (show (σ 3 0) ≤ s + 1 by omega)]
        omega
      omega
    · obtain ⟨d', hD'⟩ := rk_Dex (wk := (σ' 2 0)) (w := w) (ck + 1) (by omega) (by omega)
      have := hD'.2.1
      refine ⟨_, ?_, s, P', Or.inl ⟨hs', Or.inl ⟨q3, w, d', 0, by omega, q4, q5, hD', Or.inr ⟨rfl, q7⟩, rfl⟩⟩⟩
      rw [ec]
      omega
  · obtain ⟨hlt, F, Q⟩ := rk_busy I hw P hs hb S
    have T := rk_TU F hw ew
    rcases Q with ⟨q1, q2, q3, q4, q5⟩ | h | h
    · refine stay (q1.trans hst) ?_
      have : rk_M σ' s = rk_M σ s := by
        unfold rk_M
        rw [q3, q4]
      omega
    · omega
    · have := ((I.2.2.2.1 w hw).2.2 h.1).1
      rw [h.2.1] at this
      omega
theorem rk_tick (I : iv_I 1 iv_N σ ρ) (I' : iv_I 0 iv_N σ' ρ') (K : rk_K ck σ m) (nAD : ¬ ft_AD σ) (hw : w < (σ 2 0)) (hr : (ck + 1) % 4 = 0 → w = (ck + 1) / 4 % (σ 2 0)) (S : ft_Stp σ ρ w σ' ρ') : ∃ m', m' < m ∧ rk_K (ck + 1) σ' m' := by
  obtain ⟨s, P, ⟨hs, Z⟩ | ⟨hs, Z⟩⟩ := K
  · have P' := rk_keep I hw P (Nat.le_of_lt hs) S
    rcases Z with Z | Z | Z | Z
    · exact rk_t1 I I' P P' hs hw hr S Z
    · exact rk_t2 I I' P P' hs hw S Z
    · exact rk_t3 I I' P P' hs hw hr S Z
    · exact rk_t4 I P P' hs hw S Z
  · have P' := rk_keep I hw P (Nat.le_of_eq hs) S
    subst hs
    exact rk_tZ I P P' Z nAD hw hr S
end
end
section
/-! X: the loops of run and work; start -/
/-- what stays from the start of a run on -/
def it_G (σ : Nat → Nat → Nat) (ρ : Nat → Nat → Int32) (σ' : Nat → Nat → Nat) (ρ' : Nat → Nat → Int32) : Prop := (σ' 0 0) = (σ 0 0) ∧ (σ' 1 0) = (σ 1 0) ∧ (σ' 2 0) = (σ 2 0) ∧ (σ' 9) = (σ 9) ∧ (σ' 10) = (σ 10) ∧ (σ' 11) = (σ 11) ∧ (ρ' 8) = (ρ 8) ∧ (ρ' 12) = (ρ 12)
theorem it_Gr (σ : Nat → Nat → Nat) (ρ : Nat → Nat → Int32) : it_G σ ρ σ ρ := ⟨rfl, rfl, rfl, rfl, rfl, rfl, rfl, rfl⟩
/-- one tick: next worker, step -/
theorem xw_tick {post : SX → Prop} {σ : Nat → Nat → Nat} {ρ : Nat → Nat → Int32} (I : iv_I 0 iv_N σ ρ) (hc : (σ 6 0) < 2147483646)
    (H : ∀ w σ' ρ', w < (σ 2 0) → iv_I 0 iv_N σ' ρ' → it_G σ ρ σ' ρ' → (σ' 6 0) = (σ 6 0) + 1 → (∀ m, rk_K ((σ 6 0)) σ m → ¬ ft_AD σ → ∃ m', m' < m ∧ rk_K ((σ' 6 0) ) σ' m') → post (ft_cv σ' ρ')) : wpX_nextWorker (fun r u => wpX_step post u r) (ft_cv σ ρ) := by
  have hB := I.1
  refine xw_nextWorker hB.2.1 hB.2.2.1 (by omega) (fun w x hw hr => ?_)
  have I1 : iv_I 1 iv_N (ft_sc σ 6 ((σ 6 0) + 1)) (ft_ra ρ 5 (fun _ => x)) := it_tick I
  refine xw_step (by have := hB.2.2.1; omega) (it_wf I1 (show (σ 6 0) + 1 < 2147483648 by omega) hw) (fun σ' ρ' S => ?_)
  have I' := it_stp I1 (show (σ 6 0) + 1 < 2147483648 by omega) hw S
  obtain ⟨a1, a2, a3, a4, a5, a6, a7, a8, a9⟩ := it_fx S
  have a4' : (σ' 6 0) = (σ 6 0) + 1 := a4
  refine H w σ' ρ' hw I' ⟨a1, a2, a3, a5, a6, a7, a8, a9⟩ a4 (fun m K nAD => ?_)
  rw [a4']
  exact rk_tick (ck := (σ 6 0)) (m := m) I1 I' K nAD hw hr S
theorem it_Gt {σ σ' σ'' : Nat → Nat → Nat} {ρ ρ' ρ'' : Nat → Nat → Int32} (a : it_G σ ρ σ' ρ') (b : it_G σ' ρ' σ'' ρ'') : it_G σ ρ σ'' ρ'' := by
  obtain ⟨a1, a2, a3, a4, a5, a6, a7, a8⟩ := a
  obtain ⟨b1, b2, b3, b4, b5, b6, b7, b8⟩ := b
  exact ⟨b1.trans a1, b2.trans a2, b3.trans a3, b4.trans a4, b5.trans a5, b6.trans a6, b7.trans a7, b8.trans a8⟩
theorem xw_AD {post : Int32 → Prop} {σ : Nat → Nat → Nat} {ρ : Nat → Nat → Int32} {q : Nat} (I : iv_I q iv_N σ ρ) (h1 : ft_AD σ → post 1) (h0 : ¬ ft_AD σ → post 0) : wpX_isAllDone post (ft_cv σ ρ) := by
  have hB := I.1
  have h2 := I.2.1
  exact xw_isAllDone hB.2.2.1 hB.1 (Nat.le_trans h2.1 hB.1) (Nat.le_trans h2.2 hB.1) (fun w hw => (I.2.2.2.1 w hw).1) h1 h0
theorem xw_run34 {post : Int32 → SX → Prop} {σ0 : Nat → Nat → Nat} {ρ0 : Nat → Nat → Int32} (H : ∀ σ' ρ', iv_I 0 iv_N σ' ρ' → it_G σ0 ρ0 σ' ρ' → ft_AD σ' → wX_run_63 post (nI (σ' 0 0)) (nI (σ' 1 0)) (nI (σ' 2 0)) (nI (σ' 3 0)) (nI (σ' 4 0)) (ρ' 5 0) (nI (σ' 6 0)) (ρ' 7 0) (ρ' 8) (ft_nA (σ' 9)) (ft_nA (σ' 10)) (ft_nA (σ' 11)) (ρ' 12) (ρ' 13) (ft_nA (σ' 14)) (ft_nA (σ' 15)) (ft_nA (σ' 16)) (ft_nA (σ' 17)) (ft_nA (σ' 18)) (ft_nA (σ' 19)) (ft_nA (σ' 20)) (ft_nB (σ' 21)) (ft_nA (σ' 22)) (ft_nA (σ' 23)) (ft_nA (σ' 24)) (ρ' 25) (ft_nA (σ' 26)) (ft_nA (σ' 27)) (ft_nA (σ' 28)) (ft_nA (σ' 29)) (ρ' 30) (ft_nA (σ' 31)) (ρ' 32) (ft_nA (σ' 33))) : ∀ F m n σ ρ, m < F → n + m < 200000 → iv_I 0 iv_N σ ρ → it_G σ0 ρ0 σ ρ → rk_K ((σ 6 0)) σ m → (σ 6 0) + m < 2147483646 → wX_run_34 post F (nI n) (nI (σ 0 0)) (nI (σ 1 0)) (nI (σ 2 0)) (nI (σ 3 0)) (nI (σ 4 0)) (ρ 5 0) (nI (σ 6 0)) (ρ 7 0) (ρ 8) (ft_nA (σ 9)) (ft_nA (σ 10)) (ft_nA (σ 11)) (ρ 12) (ρ 13) (ft_nA (σ 14)) (ft_nA (σ 15)) (ft_nA (σ 16)) (ft_nA (σ 17)) (ft_nA (σ 18)) (ft_nA (σ 19)) (ft_nA (σ 20)) (ft_nB (σ 21)) (ft_nA (σ 22)) (ft_nA (σ 23)) (ft_nA (σ 24)) (ρ 25) (ft_nA (σ 26)) (ft_nA (σ 27)) (ft_nA (σ 28)) (ft_nA (σ 29)) (ρ 30) (ft_nA (σ 31)) (ρ 32) (ft_nA (σ 33)) := by
  intro F
  induction F with
  | zero => intro m n σ ρ h; omega
  | succ F ih =>
    intro m n σ ρ hm hn I G K hc
    refine br_f (nI_ge (b := 200000) (by omega) (by decide)) (xw_AD (σ := σ) (ρ := ρ) I (fun hAD => br_f (by decide) (H σ ρ I G hAD)) (fun hAD => br_t rfl ?_))
    refine xw_tick (σ := σ) (ρ := ρ) I (by omega) (fun w σ' ρ' hw I' G' hc' hK => nm_r (nI_1 n) ?_)
    obtain ⟨m', hm', K'⟩ := hK m K hAD
    exact ih m' (n + 1) σ' ρ' (by omega) (by omega) I' (it_Gt G G') K' (by omega)
theorem xw_work34 {post : Int32 → SX → Prop} {x2 : Int32} {c0 : Nat} {σ0 : Nat → Nat → Nat} {ρ0 : Nat → Nat → Int32} (hc0 : c0 < 1000000000) (H : ∀ σ' ρ', iv_I 0 iv_N σ' ρ' → it_G σ0 ρ0 σ' ρ' → (σ' 6 0) ≤ c0 + 2000 → post 0 (ft_cv σ' ρ')) : ∀ k n σ ρ, n + k = 2000 → iv_I 0 iv_N σ ρ → it_G σ0 ρ0 σ ρ → (σ 6 0) ≤ c0 + n → wX_work_34 post x2 (k + 1) (nI n) (nI (σ 0 0)) (nI (σ 1 0)) (nI (σ 2 0)) (nI (σ 3 0)) (nI (σ 4 0)) (ρ 5 0) (nI (σ 6 0)) (ρ 7 0) (ρ 8) (ft_nA (σ 9)) (ft_nA (σ 10)) (ft_nA (σ 11)) (ρ 12) (ρ 13) (ft_nA (σ 14)) (ft_nA (σ 15)) (ft_nA (σ 16)) (ft_nA (σ 17)) (ft_nA (σ 18)) (ft_nA (σ 19)) (ft_nA (σ 20)) (ft_nB (σ 21)) (ft_nA (σ 22)) (ft_nA (σ 23)) (ft_nA (σ 24)) (ρ 25) (ft_nA (σ 26)) (ft_nA (σ 27)) (ft_nA (σ 28)) (ft_nA (σ 29)) (ρ 30) (ft_nA (σ 31)) (ρ 32) (ft_nA (σ 33)) := by
  intro k
  induction k with
  | zero =>
    intro n σ ρ hn I G hc
    have hp := H σ ρ I G (by omega)
    exact br_c (fun _ => hp) (fun _ => br_t (nI_le (a := 2000) (by omega) (by omega)) hp)
  | succ k ih =>
    intro n σ ρ hn I G hc
    have hp := H σ ρ I G (by omega)
    refine br_c (fun _ => hp) (fun _ => br_f (nI_ge (b := 2000) (by omega) (by decide)) (xw_AD (σ := σ) (ρ := ρ) I (fun hAD => br_f (by decide) hp) (fun hAD => br_t rfl ?_)))
    refine xw_tick (σ := σ) (ρ := ρ) I (by omega) (fun w σ' ρ' hw I' G' hc' hK => nm_r (nI_1 n) ?_)
    exact ih (n + 1) σ' ρ' (by omega) I' (it_Gt G G') (by omega)
/-- all done: all are executed, and read rightly -/
theorem iv_done {q : Nat} {σ : Nat → Nat → Nat} {ρ : Nat → Nat → Int32} (I : iv_I q iv_N σ ρ) (A : ft_AD σ) : ∀ n, n ≤ (σ 0 0) → rk_P σ n := by
  obtain ⟨hB, h1, h2, h3, h4, h5, h6, h7, h8, h9, h10, h11, h12, h13⟩ := I
  obtain ⟨a1, a2, a3⟩ := A
  have h8c := hB.1
  intro n
  induction n with
  | zero => intro _ t ht; omega
  | succ n ih =>
    intro hn
    have P := ih (by omega)
    have h4' := (h2 n (by omega)).1
    have hcase : (σ 16) n = 0 ∨ (σ 16) n = 1 ∨ (σ 16) n = 2 ∨ (σ 16) n = 3 := by omega
    rcases hcase with h | h | h | h
    · have := h8 n (by omega) h
      omega
    · obtain ⟨w, hw, a, b⟩ := h5 n (by omega) h
      have := a3 w hw
      omega
    · rcases h9 n (by omega) h with g | g | ⟨w, hw, a, b, c⟩ | g
      · exact g.elim
      · omega
      · have := a3 w hw
        omega
      · exact rk_P1 P h g
    · obtain ⟨b, hb, hbit⟩ := h7.2.1 n (by omega) h
      exact absurd (P b hb).1 (h7.1 b n (by omega) (by omega) hbit).2.2.2
theorem ft_zL {f : Nat → Nat} {n j : Nat} (h : j < n) : ft_z f n j = 0 := if_pos h
theorem it_sta {σ : Nat → Nat → Nat} {ρ : Nat → Nat → Int32} (hB : iv_B ((σ 0 0)) ((σ 2 0)) ((σ 9)) ((σ 10)) ((σ 11)) ((σ 14)) ((σ 22))) : iv_I 0 iv_N (ft_sta σ) ρ := by
  have h8c := hB.1
  have h6 := hB.2.2.1
  have tz : ∀ w, w < (σ 2 0) → ft_z ((σ 26)) 6 w = 0 := fun w hw => ft_zL (by omega)
  have sz : ∀ t, t < (σ 0 0) → ft_z ((σ 16)) 8 t = 0 := fun t ht => ft_zL (by omega)
  refine ⟨hB, ⟨Nat.zero_le _, Nat.zero_le _⟩, ?_, ?_, ?_, ?_, ?_, ⟨?_, ?_, ?_⟩, ?_, ?_, ?_, ?_, ?_, ?_⟩
  · intro j hj
    show ft_z ((σ 16)) 8 j < 4 ∧ ft_z ((σ 17)) 8 j + 0 ≤ 0 ∧ ft_z ((σ 15)) 8 j < 65536 ∧ ft_z ((σ 19)) 8 j ≤ 12 ∧ ft_z ((σ 24)) 8 j ≤ 12 ∧ ft_z ((σ 23)) 8 j ≤ 1
    rw [ft_zL hj, ft_zL hj, ft_zL hj, ft_zL hj, ft_zL hj, ft_zL hj]
    omega
  · intro w hw
    show ft_z ((σ 26)) 6 w ≤ 2 ∧ (ft_z ((σ 26)) 6 w ≠ 0 → _) ∧ (ft_z ((σ 26)) 6 w = 1 → _)
    rw [tz w hw]
    exact ⟨by omega, fun h => absurd rfl h, fun h => absurd h (by decide)⟩
  · intro w w' hw _ h1
    have h1' : ft_z ((σ 26)) 6 w = 1 := h1
    rw [tz w hw] at h1'
    omega
  · intro t ht h1
    have h1' : ft_z ((σ 16)) 8 t = 1 := h1
    rw [sz t ht] at h1'
    omega
  · intro w hw h1
    have h1' : ft_z ((σ 26)) 6 w = 1 := h1
    rw [tz w hw] at h1'
    omega
  · intro b t hb ht h
    have h' : (ft_z ((σ 18)) 8 b).testBit t = true := h
    rw [ft_zL hb, Nat.zero_testBit] at h'
    exact absurd h' (by decide)
  · intro t ht h1
    have h1' : ft_z ((σ 16)) 8 t = 3 := h1
    rw [sz t ht] at h1'
    omega
  · intro b b' t hb _ ht h
    have h' : (ft_z ((σ 18)) 8 b).testBit t = true := h
    rw [ft_zL hb, Nat.zero_testBit] at h'
    exact absurd h' (by decide)
  · exact fun t ht _ => Nat.zero_le _
  · exact fun t ht _ => Or.inr (Or.inl (Nat.zero_le _))
  · intro t k ht hk
    have hk' : k < ft_z ((σ 19)) 8 t := hk
    rw [ft_zL ht] at hk'
    omega
  · intro t c ht h1
    have h1' : ft_z ((σ 16)) 8 t = 2 := h1
    rw [sz t ht] at h1'
    omega
  · intro w hw h1
    have h1' : ft_z ((σ 26)) 6 w = 1 := h1
    rw [tz w hw] at h1'
    omega
  · intro t ht h1
    have h1' : ft_z ((σ 16)) 8 t = 2 := h1
    rw [sz t ht] at h1'
    omega
end
section
/-! one after the other -/
def sq_m (ln op pl : Nat → Nat) (nu : Nat → Int32) (t : Nat) (g : Nat → Int32) : mc_M := mc_run ln op pl nu t g 12
def sq_S (ln op pl : Nat → Nat) (nu : Nat → Int32) (g : Nat → Int32) : Nat → Nat → Int32
  | 0 => g
  | t + 1 => if (sq_m ln op pl nu t (sq_S ln op pl nu g t)).2.2.1 = 0 then (sq_m ln op pl nu t (sq_S ln op pl nu g t)).2.2.2.2.2.1 else sq_S ln op pl nu g t
/-- the machine's memory beyond the cells stays -/
theorem mc_hiE {o a b : Nat} {n : Int32} {m : mc_M} {i : Nat} (h : 16 ≤ i) : (mc_ex o a b n m).2.2.2.2.2.1 i = m.2.2.2.2.2.1 i := by
  obtain ⟨pos, mask, fail, oc, reg, mem, ou⟩ := m
  have u : ∀ x y, upd mem (mc_c x) y i = mem i := fun x y => pk_un (by have := mc_cL x; omega)
  unfold mc_ex
  dsimp only
  by_cases h0 : o = 0
  · rw [if_pos h0]
  rw [if_neg h0]
  by_cases h1 : o = 1
  · rw [if_pos h1]
  rw [if_neg h1]
  by_cases h2 : o = 2
  · rw [if_pos h2]
  rw [if_neg h2]
  by_cases h3 : o = 3
  · rw [if_pos h3]
  rw [if_neg h3]
  by_cases h4 : o = 4
  · rw [if_pos h4]
    exact u _ _
  rw [if_neg h4]
  by_cases h5 : o = 5
  · rw [if_pos h5]
  rw [if_neg h5]
  by_cases h6 : o = 6
  · rw [if_pos h6]
  rw [if_neg h6]
  by_cases h7 : o = 7
  · rw [if_pos h7]
    by_cases h7' : reg a < n
    · rw [if_pos h7']
    · rw [if_neg h7']
  rw [if_neg h7]
  by_cases h8 : o = 8
  · rw [if_pos h8]
  rw [if_neg h8]
  by_cases h9 : o = 9
  · rw [if_pos h9]
  rw [if_neg h9]
  by_cases h10 : o = 10
  · rw [if_pos h10]
    exact u _ _
  rw [if_neg h10]
theorem mc_hi {ln op pl : Nat → Nat} {nu : Nat → Int32} {t i : Nat} {g : Nat → Int32} (h : 16 ≤ i) : ∀ k, (mc_run ln op pl nu t g k).2.2.2.2.2.1 i = g i := by
  intro k
  induction k with
  | zero => rfl
  | succ k ih =>
    by_cases hl : ln t ≤ (mc_run ln op pl nu t g k).1
    · rw [show mc_run ln op pl nu t g (k + 1) = mc_run ln op pl nu t g k from mc_stay hl 1]
      exact ih
    · rw [mc_runS (by omega)]
      exact (mc_hiE h).trans ih
theorem sq_hi {ln op pl : Nat → Nat} {nu : Nat → Int32} {i : Nat} {g : Nat → Int32} (h : 16 ≤ i) : ∀ t, sq_S ln op pl nu g t i = g i := by
  intro t
  induction t with
  | zero => rfl
  | succ t ih =>
    unfold sq_S
    split
    · exact (mc_hi h 12).trans ih
    · exact ih
/-- a finished block: what the cells hold before t, and what came out -/
theorem sq_view {q : Nat} {σ : Nat → Nat → Nat} {ρ : Nat → Nat → Int32} (I : iv_I q iv_N σ ρ) (P : rk_P σ ((σ 0 0))) : ∀ t, t ≤ (σ 0 0) → (∀ c, c < 16 → ft_vl ((ρ 8)) ((ρ 13)) c (ft_nb ((σ 15)) c t) = sq_S ((σ 9)) ((σ 10)) ((σ 11)) ((ρ 12)) ((ρ 8)) t c) ∧ (∀ s, s < t → iv_Res ((σ 15)) ((σ 23)) ((σ 24)) ((ρ 13)) ((ρ 25)) s (sq_S ((σ 9)) ((σ 10)) ((σ 11)) ((ρ 12)) ((ρ 8)) s) (sq_m ((σ 9)) ((σ 10)) ((σ 11)) ((ρ 12)) s (sq_S ((σ 9)) ((σ 10)) ((σ 11)) ((ρ 12)) ((ρ 8)) s))) := by
  obtain ⟨hB, h1, h2, h3, h4, h5, h6, h7, h8, h9, h10, h11, h12, h13⟩ := I
  have h8c := hB.1
  intro t
  induction t with
  | zero => intro _; exact ⟨fun c hc => rfl, fun s hs => by omega⟩
  | succ t ih =>
    intro ht
    obtain ⟨ihv, ihr⟩ := ih (by omega)
    obtain ⟨p1, p2⟩ := P t (by omega)
    obtain ⟨g, hg⟩ : ∃ g, g = sq_S ((σ 9)) ((σ 10)) ((σ 11)) ((ρ 12)) ((ρ 8)) t := ⟨_, rfl⟩
    rw [← hg] at ihv
    have C : iv_Con ((σ 16)) ((σ 17)) ((σ 19)) ((σ 20)) ((σ 21)) ((σ 22)) ((ρ 8)) ((ρ 13)) t g := by
      intro k hk
      obtain ⟨e1, e2⟩ := p2 k hk
      obtain ⟨b1, b2, b3⟩ := h10 t k (by omega) hk
      have v := ihv _ b1
      rw [e1] at v
      by_cases hr : (σ 21) (12 * t + k) = 0
      · rw [hr] at v
        exact Or.inl ⟨hr, v.symm⟩
      · obtain ⟨f, hf⟩ : ∃ f, (σ 21) (12 * t + k) = f + 1 := ⟨(σ 21) (12 * t + k) - 1, by omega⟩
        obtain ⟨e3, e4⟩ := e2 f hf
        rw [hf] at v
        have hbit := ft_nb_bit _ _ _ _ (e1.trans hf)
        have := h11 f _ (by omega) e3 b1 hbit
        exact Or.inr ⟨f, hf, e3, by omega, v.symm⟩
    have R := h13 t (by omega) p1 g C
    refine ⟨fun c hc => ?_, fun s hs => ?_⟩
    · have hS : sq_S ((σ 9)) ((σ 10)) ((σ 11)) ((ρ 12)) ((ρ 8)) (t + 1) = if (sq_m ((σ 9)) ((σ 10)) ((σ 11)) ((ρ 12)) t g).2.2.1 = 0 then (sq_m ((σ 9)) ((σ 10)) ((σ 11)) ((ρ 12)) t g).2.2.2.2.2.1 else g := by
        rw [hg]
        rfl
      rw [hS]
      obtain ⟨r1, r2, r3, r4, r5⟩ := R
      have hN : ft_nb ((σ 15)) c (t + 1) = if ((σ 15) t).testBit c = true then t + 1 else ft_nb ((σ 15)) c t := rfl
      rw [hN]
      by_cases hf : (sq_m ((σ 9)) ((σ 10)) ((σ 11)) ((ρ 12)) t g).2.2.1 = 0
      · rw [if_pos hf]
        have r5' := r5 c hc hf
        have r2' : (σ 15) t = (sq_m ((σ 9)) ((σ 10)) ((σ 11)) ((ρ 12)) t g).2.1 := r2.trans (if_pos hf)
        rw [r2']
        by_cases hb : (sq_m ((σ 9)) ((σ 10)) ((σ 11)) ((ρ 12)) t g).2.1.testBit c = true
        · rw [if_pos hb]
          exact (r5'.trans (if_pos hb)).symm
        · rw [if_neg hb]
          exact (ihv c hc).trans (r5'.trans (if_neg hb)).symm
      · rw [if_neg hf]
        have r2' : (σ 15) t = 0 := r2.trans (if_neg hf)
        rw [r2', Nat.zero_testBit]
        exact ihv c hc
    · by_cases e : s = t
      · subst e
        rw [← hg]
        exact R
      · exact ihr s (by omega)
/-- the store behind commit -/
theorem sq_commit {q : Nat} {σ : Nat → Nat → Nat} {ρ : Nat → Nat → Int32} (I : iv_I q iv_N σ ρ) (P : rk_P σ ((σ 0 0))) : ft_cs ((ρ 8)) ((ρ 13)) ((σ 15)) ((σ 0 0)) 16 = sq_S ((σ 9)) ((σ 10)) ((σ 11)) ((ρ 12)) ((ρ 8)) ((σ 0 0)) := by
  funext c
  unfold ft_cs
  by_cases h : c < 16
  · rw [if_pos h]
    exact (sq_view I P _ (Nat.le_refl _)).1 c h
  · rw [if_neg h, sq_hi (by omega)]
end
section
/-! Y: one instruction -/
section
variable {post : SY → Prop} {P N X Y : Int32} {C S U L M D O Q T R B : Nat → Int32} {t a b o : Nat} {n : Int32}
theorem yn_ne {o k : Nat} (h : o ≠ k) (ho : o < 2147483648) (hk : k < 2147483648) : ¬ nI o = nI k := fun e => h ((nI_eq ho hk).mp e)
theorem yt_329 (ho : o < 11) (h : post (P, N, X, Y, C, S, U, L, M, D, O, Q, T, R, B)) : wY_step_329 post (nI o) P N X Y C S U L M D O Q T R B := br_f (yn_ne (k := 11) (by omega) (by omega) (by omega)) h
theorem yt_301 (ho : o < 10) (h : post (P, N, X, Y, C, S, U, L, M, D, O, Q, T, R, B)) : wY_step_301 post (nI t) (nI a) (nI b) (nI o) P N X Y C S U L M D O Q T R B := br_f (yn_ne (k := 10) (by omega) (by omega) (by omega)) (yt_329 (by omega) h)
theorem yt_273 (ho : o < 9) (h : post (P, N, X, Y, C, S, U, L, M, D, O, Q, T, R, B)) : wY_step_273 post (nI t) (nI a) (nI b) (nI o) P N X Y C S U L M D O Q T R B := br_f (yn_ne (k := 9) (by omega) (by omega) (by omega)) (yt_301 (by omega) h)
theorem yt_234 (ho : o < 8) (h : post (P, N, X, Y, C, S, U, L, M, D, O, Q, T, R, B)) : wY_step_234 post (nI t) (nI a) (nI b) (nI o) P N X Y C S U L M D O Q T R B := br_f (yn_ne (k := 8) (by omega) (by omega) (by omega)) (yt_273 (by omega) h)
theorem yt_211 (ho : o < 7) (h : post (P, N, X, Y, C, S, U, L, M, D, O, Q, T, R, B)) : wY_step_211 post (nI t) (nI a) (nI b) n (nI o) P N X Y C S U L M D O Q T R B := br_f (yn_ne (k := 7) (by omega) (by omega) (by omega)) (yt_234 (by omega) h)
theorem yt_178 (ho : o < 6) (h : post (P, N, X, Y, C, S, U, L, M, D, O, Q, T, R, B)) : wY_step_178 post (nI t) (nI a) (nI b) n (nI o) P N X Y C S U L M D O Q T R B := br_f (yn_ne (k := 6) (by omega) (by omega) (by omega)) (yt_211 (by omega) h)
theorem yt_156 (ho : o < 5) (h : post (P, N, X, Y, C, S, U, L, M, D, O, Q, T, R, B)) : wY_step_156 post (nI t) (nI a) (nI b) n (nI o) P N X Y C S U L M D O Q T R B := br_f (yn_ne (k := 5) (by omega) (by omega) (by omega)) (yt_178 (by omega) h)
theorem yt_134 (ho : o < 4) (h : post (P, N, X, Y, C, S, U, L, M, D, O, Q, T, R, B)) : wY_step_134 post (nI t) (nI a) (nI b) n (nI o) P N X Y C S U L M D O Q T R B := br_f (yn_ne (k := 4) (by omega) (by omega) (by omega)) (yt_156 (by omega) h)
theorem yt_112 (ho : o < 3) (h : post (P, N, X, Y, C, S, U, L, M, D, O, Q, T, R, B)) : wY_step_112 post (nI t) (nI a) (nI b) n (nI o) P N X Y C S U L M D O Q T R B := br_f (yn_ne (k := 3) (by omega) (by omega) (by omega)) (yt_134 (by omega) h)
theorem yt_90 (ho : o < 2) (h : post (P, N, X, Y, C, S, U, L, M, D, O, Q, T, R, B)) : wY_step_90 post (nI t) (nI a) (nI b) n (nI o) P N X Y C S U L M D O Q T R B := br_f (yn_ne (k := 2) (by omega) (by omega) (by omega)) (yt_112 (by omega) h)
theorem yt_68 (ho : o < 1) (h : post (P, N, X, Y, C, S, U, L, M, D, O, Q, T, R, B)) : wY_step_68 post (nI t) (nI a) (nI b) n (nI o) P N X Y C S U L M D O Q T R B := br_f (yn_ne (k := 1) (by omega) (by omega) (by omega)) (yt_90 (by omega) h)
theorem yw_store {c z : Nat} {x : Int32} (ht : t < 8) (hc : c < 16) (hT : T t = nI z) (h : post (P, N, X, Y, (upd C c x), S, U, L, M, D, O, Q, (upd T t (nI (z ||| 2 ^ c))), R, B)) : wpY_store post (P, N, X, Y, C, S, U, L, M, D, O, Q, T, R, B) (nI t) (nI c) x := by
  unfold wpY_store
  exact And.intro (ft_in hc) (nm_r (ft_wR (by omega)) (And.intro (ft_in ht) (And.intro (ft_in ht) (nm_r (ft_wR (z := nI (z ||| 2 ^ c)) (by omega) (by rw [ft_rR (a := T) (i := t) (by omega), hT]; exact ft_or (by omega))) h))))
theorem yw_step {op pl : Nat → Nat} {p p' z k : Nat} (eX : X = nI p) (hp : p < 12) (ht : t < 8) (eU : U = ft_nA op) (eL : L = ft_nA pl) (ep : 12 * t + p = p') (eo : op p' = o) (ho : o ≤ 11) (hpl : pl p' ≤ 15) (ea : pl p' / 4 = a) (eb : pl p' % 4 = b) (en : M p' = n) (hO : O t = nI k) (hk : k ≤ 11) (hT : T t = nI z)
    (h0 : o = 0 → post (P, N, (nI (p + 1)), Y, C, S, U, L, M, D, O, Q, T, (upd R a n), B))
    (h1 : o = 1 → post (P, N, (nI (p + 1)), Y, C, S, U, L, M, D, O, Q, T, (upd R a (R a + R b)), B))
    (h2 : o = 2 → post (P, N, (nI (p + 1)), Y, C, S, U, L, M, D, O, Q, T, (upd R a (R a - R b)), B))
    (h3 : o = 3 → post (P, N, (nI (p + 1)), Y, C, S, U, L, M, D, O, Q, T, (upd R a (C (mc_c n))), B))
    (h4 : o = 4 → post (P, N, (nI (p + 1)), Y, (upd C (mc_c n) (R a)), S, U, L, M, D, O, Q, (upd T t (nI (z ||| 2 ^ mc_c n))), R, B))
    (h5 : o = 5 → post (P, N, (nI (p + 1)), Y, C, S, U, L, M, D, O, Q, T, (upd R a (R a * R b)), B))
    (h6a : o = 6 → ¬ R a < R b → post (P, N, (nI (p + 1)), Y, C, S, U, L, M, D, O, Q, T, R, B))
    (h6b : o = 6 → R a < R b → post (P, N, (nI (p + 2)), Y, C, S, U, L, M, D, O, Q, T, R, B))
    (h7a : o = 7 → ¬ R a < n → post (P, N, (nI (p + 1)), Y, C, S, U, L, M, D, O, Q, T, R, B))
    (h7b : o = 7 → R a < n → post (P, N, (nI (p + 1)), (1), C, S, U, L, M, D, O, Q, T, R, B))
    (h8 : o = 8 → post (P, N, (nI (p + 1)), Y, C, S, U, L, M, D, (upd O t (nI (k + 1))), (upd Q (12 * t + k) (R a)), T, R, B))
    (h9 : o = 9 → post (P, N, (nI (p + 1)), Y, C, S, U, L, M, D, O, Q, T, (upd R a (C (mc_c (R b)))), B))
    (h10 : o = 10 → post (P, N, (nI (p + 1)), Y, (upd C (mc_c (R b)) (R a)), S, U, L, M, D, O, Q, (upd T t (nI (z ||| 2 ^ mc_c (R b)))), R, B))
    (h11 : o = 11 → post (P, N, (12), Y, C, S, U, L, M, D, O, Q, T, R, B)) : wpY_step post (P, N, X, Y, C, S, U, L, M, D, O, Q, T, R, B) (nI t) := by
  subst eX eU eL
  have h96 : p' < 96 := by omega
  have ha : a < 4 := by omega
  have hb : b < 4 := by omega
  have il : p' < 2147483648 := by omega
  have ra : R (nI a).toNatClampNeg = R a := ft_rR (by omega)
  have rb : R (nI b).toNatClampNeg = R b := ft_rR (by omega)
  have q4 : (ft_nA pl) (nI p').toNatClampNeg / 4 = nI a := by
    rw [ft_rd il, ← ea]
    exact pk_div (d := 4) (by omega) (by omega) (by omega)
  have r4 : (ft_nA pl) (nI p').toNatClampNeg - (ft_nA pl) (nI p').toNatClampNeg / 4 * 4 = nI b := by
    rw [ft_rd il, ← eb]
    exact pk_rem (d := 4) (by omega) (by omega) (by omega)
  unfold wpY_step
  refine nm_r ((ft_l12 t p).trans (congrArg nI ep)) (And.intro (ft_in h96) (And.intro (by decide) (nm_r q4 (And.intro (ft_in h96) (And.intro (by decide) (nm_r r4 (And.intro (ft_in h96) (nm_r (e' := n) ((ft_rR il).trans en) (And.intro (ft_in h96) (nm_r (e' := nI o) ((ft_rd il).trans (congrArg nI eo)) (nm_r (nI_1 p) ?_)))))))))))
  refine pk_eq o 0 (fun e => And.intro (ft_in ha) (nm_r (ft_wR (by omega)) (yt_68 (by omega) (h0 e)))) (fun e0 => ?_)
  unfold wY_step_68
  refine pk_eq o 1 (fun e => And.intro (ft_in ha) (And.intro (ft_in hb) (And.intro (ft_in ha) (nm_r (ft_wR (z := R a + R b) (by omega) (by rw [ra, rb])) (yt_90 (by omega) (h1 e)))))) (fun e1 => ?_)
  unfold wY_step_90
  refine pk_eq o 2 (fun e => And.intro (ft_in ha) (And.intro (ft_in hb) (And.intro (ft_in ha) (nm_r (ft_wR (z := R a - R b) (by omega) (by rw [ra, rb])) (yt_112 (by omega) (h2 e)))))) (fun e2 => ?_)
  unfold wY_step_112
  refine pk_eq o 3 (fun e => And.intro (ft_inE (mc_cE n) (mc_cL n)) (And.intro (ft_in ha) (nm_r (ft_wR (z := C (mc_c n)) (by omega) (ft_rRI (mc_cE n) (by have := mc_cL n; omega))) (yt_134 (by omega) (h3 e))))) (fun e3 => ?_)
  unfold wY_step_134
  refine pk_eq o 4 (fun e => And.intro (ft_in ha) ?_) (fun e4 => ?_)
  · rw [mc_cE n, ra]
    exact yw_store ht (mc_cL n) hT (yt_156 (by omega) (h4 e))
  unfold wY_step_156
  refine pk_eq o 5 (fun e => And.intro (ft_in ha) (And.intro (ft_in hb) (And.intro (ft_in ha) (nm_r (ft_wR (z := R a * R b) (by omega) (by rw [ra, rb])) (yt_178 (by omega) (h5 e)))))) (fun e5 => ?_)
  unfold wY_step_178
  refine pk_eq o 6 (fun e => And.intro (ft_in ha) (And.intro (ft_in hb) ?_)) (fun e6 => ?_)
  · rw [ra, rb]
    exact ek_if (d := ¬ R a < R b) Int32.not_lt.symm (fun hh => yt_211 (by omega) (h6a e hh)) (fun hh => nm_r (nI_1 (p + 1)) (yt_211 (by omega) (h6b e (Decidable.not_not.mp hh))))
  unfold wY_step_211
  refine pk_eq o 7 (fun e => And.intro (ft_in ha) ?_) (fun e7 => ?_)
  · rw [ra]
    exact ek_if (d := ¬ R a < n) Int32.not_lt.symm (fun hh => yt_234 (by omega) (h7a e hh)) (fun hh => yt_234 (by omega) (h7b e (Decidable.not_not.mp hh)))
  unfold wY_step_234
  refine pk_eq o 8 (fun e => And.intro (ft_in ht) (And.intro (ft_in ha) ?_)) (fun e8 => ?_)
  · have ei : (12 : Int32) * nI t + O (nI t).toNatClampNeg = nI (12 * t + k) := by
      rw [ft_rR (a := O) (i := t) (by omega), hO]
      exact ft_l12 _ _
    exact And.intro (ft_inE ei (by omega)) (nm_r (ft_wRI ei (by omega) ra) (And.intro (ft_in ht) (And.intro (ft_in ht) (nm_r (ft_wR (z := nI (k + 1)) (by omega) (by rw [ft_rR (a := O) (i := t) (by omega), hO, nI_1])) (yt_273 (by omega) (h8 e))))))
  unfold wY_step_273
  refine pk_eq o 9 (fun e => And.intro (ft_in hb) ?_) (fun e9 => ?_)
  · rw [rb]
    exact And.intro (ft_inE (mc_cE (R b)) (mc_cL _)) (And.intro (ft_in ha) (nm_r (ft_wR (z := C (mc_c (R b))) (by omega) (ft_rRI (mc_cE (R b)) (by have := mc_cL (R b); omega))) (yt_301 (by omega) (h9 e))))
  unfold wY_step_301
  refine pk_eq o 10 (fun e => And.intro (ft_in hb) (And.intro (ft_in ha) ?_)) (fun e10 => ?_)
  · rw [rb, mc_cE (R b), ra]
    exact yw_store ht (mc_cL _) hT (yt_329 (by omega) (h10 e))
  unfold wY_step_329
  exact pk_eq o 11 (fun e => h11 e) (fun e11 => absurd ho (by omega))
end
end
section
/-! Y: carryOut and run, by the machine -/
def yr_R (t : Nat) (m : mc_M) (X Y : Int32) (C O Q T R : Nat → Int32) : Prop := (m.2.2.1 = 0 → X = nI m.1) ∧ Y = nI m.2.2.1 ∧ C = m.2.2.2.2.2.1 ∧ O t = nI m.2.2.2.1 ∧ (∀ k, k < m.2.2.2.1 → Q (12 * t + k) = m.2.2.2.2.2.2 k) ∧ T t = nI m.2.1 ∧ (∀ r, r < 4 → R r = m.2.2.2.2.1 r)
def yr_F (t : Nat) (O Q T O' Q' T' : Nat → Int32) : Prop := (∀ j, j ≠ t → O' j = O j) ∧ (∀ j, j ≠ t → T' j = T j) ∧ (∀ j, j < 12 * t ∨ 12 * t + 12 ≤ j → Q' j = Q j)
theorem yr_Fr (t : Nat) (O Q T : Nat → Int32) : yr_F t O Q T O Q T := ⟨fun _ _ => rfl, fun _ _ => rfl, fun _ _ => rfl⟩
theorem yr_Ft {t : Nat} {O Q T O' Q' T' O'' Q'' T'' : Nat → Int32} (a : yr_F t O Q T O' Q' T') (b : yr_F t O' Q' T' O'' Q'' T'') : yr_F t O Q T O'' Q'' T'' := ⟨fun j h => (b.1 j h).trans (a.1 j h), fun j h => (b.2.1 j h).trans (a.2.1 j h), fun j h => (b.2.2 j h).trans (a.2.2 j h)⟩
theorem yr_w {R reg : Nat → Int32} {a : Nat} {x y : Int32} (h : ∀ r, r < 4 → R r = reg r) (e : x = y) : ∀ r, r < 4 → upd R a x r = upd reg a y r := by
  intro r hr
  by_cases hi : r = a
  · subst hi
    rw [pk_us, pk_us, e]
  · rw [pk_un hi, pk_un hi, h r hr]
section
variable {P N X Y : Int32} {C S U L M D O Q T R B : Nat → Int32} {t : Nat} {ln op pl : Nat → Nat}
theorem yw_st {post : SY → Prop} {m : mc_M} (ht : t < 8) (hU : U = ft_nA op) (hL : L = ft_nA pl) (hb : ∀ j, j < 96 → op j ≤ 11 ∧ pl j ≤ 15) (hp : m.1 < 12) (hf : m.2.2.1 = 0) (ho : m.2.2.2.1 ≤ 11) (I : yr_R t m X Y C O Q T R)
    (H : ∀ X' Y' C' O' Q' T' R', yr_R t (mc_st op pl M t m) X' Y' C' O' Q' T' R' → yr_F t O Q T O' Q' T' → post (P, N, (X'), (Y'), (C'), S, U, L, M, D, (O'), (Q'), (T'), (R'), B)) : wpY_step post (P, N, X, Y, C, S, U, L, M, D, O, Q, T, R, B) (nI t) := by
  obtain ⟨pos, mask, fail, oc, reg, mem, ou⟩ := m
  obtain ⟨i1, i2, i3, i4, i5, i6, i7⟩ := I
  have hp' : pos < 12 := hp
  have hf' : fail = 0 := hf
  have ho' : oc ≤ 11 := ho
  subst hf'
  have i1' : X = nI pos := i1 rfl
  have i2' : Y = 0 := i2
  have i3' : C = mem := i3
  have i4' : O t = nI oc := i4
  have i5' : ∀ k, k < oc → Q (12 * t + k) = ou k := i5
  have i6' : T t = nI mask := i6
  have i7' : ∀ r, r < 4 → R r = reg r := i7
  clear i1 i2 i3 i4 i5 i6 i7 hp hf ho
  subst i3'
  have hP : 12 * t + pos < 96 := by omega
  obtain ⟨b1, b2⟩ := hb _ hP
  have ha : pl (12 * t + pos) / 4 < 4 := by omega
  have hbb : pl (12 * t + pos) % 4 < 4 := by omega
  have ra := i7' _ ha
  have rb := i7' _ hbb
  have fO : ∀ x, ∀ j, j ≠ t → upd O t x j = O j := fun x j hj => pk_un hj
  have fT : ∀ x, ∀ j, j ≠ t → upd T t x j = T j := fun x j hj => pk_un hj
  refine yw_step (op := op) (pl := pl) (p := pos) (z := mask) (k := oc) i1' hp' ht hU hL rfl rfl b1 b2 rfl rfl rfl i4' ho' i6' ?_ ?_ ?_ ?_ ?_ ?_ ?_ ?_ ?_ ?_ ?_ ?_ ?_ ?_
  · intro e
    refine H _ _ _ _ _ _ _ ?_ (yr_Fr t O Q T)
    show yr_R t (mc_ex (op (12 * t + pos)) _ _ _ _) _ _ _ _ _ _ _
    rw [e]
    exact ⟨fun _ => rfl, i2', rfl, i4', i5', i6', yr_w i7' rfl⟩
  · intro e
    refine H _ _ _ _ _ _ _ ?_ (yr_Fr t O Q T)
    show yr_R t (mc_ex (op (12 * t + pos)) _ _ _ _) _ _ _ _ _ _ _
    rw [e]
    exact ⟨fun _ => rfl, i2', rfl, i4', i5', i6', yr_w i7' (by rw [ra, rb])⟩
  · intro e
    refine H _ _ _ _ _ _ _ ?_ (yr_Fr t O Q T)
    show yr_R t (mc_ex (op (12 * t + pos)) _ _ _ _) _ _ _ _ _ _ _
    rw [e]
    exact ⟨fun _ => rfl, i2', rfl, i4', i5', i6', yr_w i7' (by rw [ra, rb])⟩
  · intro e
    refine H _ _ _ _ _ _ _ ?_ (yr_Fr t O Q T)
    show yr_R t (mc_ex (op (12 * t + pos)) _ _ _ _) _ _ _ _ _ _ _
    rw [e]
    exact ⟨fun _ => rfl, i2', rfl, i4', i5', i6', yr_w i7' rfl⟩
  · intro e
    refine H _ _ _ _ _ _ _ ?_ ⟨fun _ _ => rfl, fT _, fun _ _ => rfl⟩
    show yr_R t (mc_ex (op (12 * t + pos)) _ _ _ _) _ _ _ _ _ _ _
    rw [e]
    exact ⟨fun _ => rfl, i2', by rw [ra]; rfl, i4', i5', pk_us, i7'⟩
  · intro e
    refine H _ _ _ _ _ _ _ ?_ (yr_Fr t O Q T)
    show yr_R t (mc_ex (op (12 * t + pos)) _ _ _ _) _ _ _ _ _ _ _
    rw [e]
    exact ⟨fun _ => rfl, i2', rfl, i4', i5', i6', yr_w i7' (by rw [ra, rb])⟩
  · intro e hl
    refine H _ _ _ _ _ _ _ ?_ (yr_Fr t O Q T)
    show yr_R t (mc_ex (op (12 * t + pos)) _ _ _ _) _ _ _ _ _ _ _
    rw [e]
    rw [ra, rb] at hl
    exact ⟨fun _ => congrArg nI (if_neg hl).symm, i2', rfl, i4', i5', i6', i7'⟩
  · intro e hl
    refine H _ _ _ _ _ _ _ ?_ (yr_Fr t O Q T)
    show yr_R t (mc_ex (op (12 * t + pos)) _ _ _ _) _ _ _ _ _ _ _
    rw [e]
    rw [ra, rb] at hl
    exact ⟨fun _ => congrArg nI (if_pos hl).symm, i2', rfl, i4', i5', i6', i7'⟩
  · intro e hl
    refine H _ _ _ _ _ _ _ ?_ (yr_Fr t O Q T)
    show yr_R t (mc_ex (op (12 * t + pos)) (pl (12 * t + pos) / 4) _ (M (12 * t + pos)) _) _ _ _ _ _ _ _
    rw [e]
    rw [ra] at hl
    show yr_R t (if reg (pl (12 * t + pos) / 4) < M (12 * t + pos) then (12, mask, 1, oc, reg, C, ou) else (pos + 1, mask, 0, oc, reg, C, ou)) _ _ _ _ _ _ _
    rw [if_neg hl]
    exact ⟨fun _ => rfl, i2', rfl, i4', i5', i6', i7'⟩
  · intro e hl
    refine H _ _ _ _ _ _ _ ?_ (yr_Fr t O Q T)
    show yr_R t (mc_ex (op (12 * t + pos)) (pl (12 * t + pos) / 4) _ (M (12 * t + pos)) _) _ _ _ _ _ _ _
    rw [e]
    rw [ra] at hl
    show yr_R t (if reg (pl (12 * t + pos) / 4) < M (12 * t + pos) then (12, mask, 1, oc, reg, C, ou) else (pos + 1, mask, 0, oc, reg, C, ou)) _ _ _ _ _ _ _
    rw [if_pos hl]
    exact ⟨fun h => absurd (show (1 : Nat) = 0 from h) (by decide), rfl, rfl, i4', i5', i6', i7'⟩
  · intro e
    refine H _ _ _ _ _ _ _ ?_ ⟨fO _, fun _ _ => rfl, fun j hj => pk_un (by omega)⟩
    show yr_R t (mc_ex (op (12 * t + pos)) _ _ _ _) _ _ _ _ _ _ _
    rw [e]
    refine ⟨fun _ => rfl, i2', rfl, pk_us, ?_, i6', i7'⟩
    intro k hk
    have hk' : k < oc + 1 := hk
    show upd Q (12 * t + oc) (R (pl (12 * t + pos) / 4)) (12 * t + k) = upd ou oc (reg (pl (12 * t + pos) / 4)) k
    by_cases hi : k = oc
    · subst hi
      rw [pk_us, pk_us, ra]
    · rw [pk_un (by omega), pk_un hi]
      exact i5' k (by omega)
  · intro e
    refine H _ _ _ _ _ _ _ ?_ (yr_Fr t O Q T)
    show yr_R t (mc_ex (op (12 * t + pos)) _ _ _ _) _ _ _ _ _ _ _
    rw [e]
    exact ⟨fun _ => rfl, i2', rfl, i4', i5', i6', yr_w i7' (by rw [rb])⟩
  · intro e
    refine H _ _ _ _ _ _ _ ?_ ⟨fun _ _ => rfl, fT _, fun _ _ => rfl⟩
    show yr_R t (mc_ex (op (12 * t + pos)) _ _ _ _) _ _ _ _ _ _ _
    rw [e]
    refine ⟨fun _ => rfl, i2', by rw [ra, rb]; rfl, i4', i5', ?_, i7'⟩
    rw [pk_us, rb]
    rfl
  · intro e
    refine H _ _ _ _ _ _ _ ?_ (yr_Fr t O Q T)
    show yr_R t (mc_ex (op (12 * t + pos)) _ _ _ _) _ _ _ _ _ _ _
    rw [e]
    exact ⟨fun _ => rfl, i2', rfl, i4', i5', i6', i7'⟩
end
theorem mc_flE {o a b : Nat} {n : Int32} {m : mc_M} (h : m.2.2.1 = 0) : ((mc_ex o a b n m).2.2.1 = 0 ∨ ((mc_ex o a b n m).2.2.1 = 1 ∧ (mc_ex o a b n m).1 = 12)) ∧ (mc_ex o a b n m).2.2.2.1 ≤ m.2.2.2.1 + 1 := by
  obtain ⟨pos, mask, fail, oc, reg, mem, ou⟩ := m
  have h' : fail = 0 := h
  subst h'
  unfold mc_ex
  dsimp only
  by_cases h0 : o = 0
  · rw [if_pos h0]; exact ⟨Or.inl rfl, Nat.le_succ _⟩
  rw [if_neg h0]
  by_cases h1 : o = 1
  · rw [if_pos h1]; exact ⟨Or.inl rfl, Nat.le_succ _⟩
  rw [if_neg h1]
  by_cases h2 : o = 2
  · rw [if_pos h2]; exact ⟨Or.inl rfl, Nat.le_succ _⟩
  rw [if_neg h2]
  by_cases h3 : o = 3
  · rw [if_pos h3]; exact ⟨Or.inl rfl, Nat.le_succ _⟩
  rw [if_neg h3]
  by_cases h4 : o = 4
  · rw [if_pos h4]; exact ⟨Or.inl rfl, Nat.le_succ _⟩
  rw [if_neg h4]
  by_cases h5 : o = 5
  · rw [if_pos h5]; exact ⟨Or.inl rfl, Nat.le_succ _⟩
  rw [if_neg h5]
  by_cases h6 : o = 6
  · rw [if_pos h6]; exact ⟨Or.inl rfl, Nat.le_succ _⟩
  rw [if_neg h6]
  by_cases h7 : o = 7
  · rw [if_pos h7]
    by_cases h7' : reg a < n
    · rw [if_pos h7']; exact ⟨Or.inr ⟨rfl, rfl⟩, Nat.le_succ _⟩
    · rw [if_neg h7']; exact ⟨Or.inl rfl, Nat.le_succ _⟩
  rw [if_neg h7]
  by_cases h8 : o = 8
  · rw [if_pos h8]; exact ⟨Or.inl rfl, Nat.le_refl _⟩
  rw [if_neg h8]
  by_cases h9 : o = 9
  · rw [if_pos h9]; exact ⟨Or.inl rfl, Nat.le_succ _⟩
  rw [if_neg h9]
  by_cases h10 : o = 10
  · rw [if_pos h10]; exact ⟨Or.inl rfl, Nat.le_succ _⟩
  rw [if_neg h10]
  exact ⟨Or.inl rfl, Nat.le_succ _⟩
theorem mc_fl {ln op pl : Nat → Nat} {nu : Nat → Int32} {t : Nat} {g : Nat → Int32} (hl : ln t ≤ 12) : ∀ k, ((mc_run ln op pl nu t g k).2.2.1 = 0 ∨ ((mc_run ln op pl nu t g k).2.2.1 = 1 ∧ (mc_run ln op pl nu t g k).1 = 12)) ∧ (mc_run ln op pl nu t g k).2.2.2.1 ≤ k := by
  intro k
  induction k with
  | zero => exact ⟨Or.inl rfl, Nat.le_refl _⟩
  | succ k ih =>
    obtain ⟨a, b⟩ := ih
    by_cases h : ln t ≤ (mc_run ln op pl nu t g k).1
    · rw [show mc_run ln op pl nu t g (k + 1) = mc_run ln op pl nu t g k from mc_stay h 1]
      exact ⟨a, by omega⟩
    · rw [mc_runS (by omega)]
      have hf : (mc_run ln op pl nu t g k).2.2.1 = 0 := by
        rcases a with a | a
        · exact a
        · omega
      obtain ⟨c, d⟩ := mc_flE (o := op (12 * t + (mc_run ln op pl nu t g k).1)) (a := pl (12 * t + (mc_run ln op pl nu t g k).1) / 4) (b := pl (12 * t + (mc_run ln op pl nu t g k).1) % 4) (n := nu (12 * t + (mc_run ln op pl nu t g k).1)) hf
      exact ⟨c, Nat.le_trans d (by omega)⟩
theorem mc_upE {o a b : Nat} {n : Int32} {m : mc_M} (h : m.1 < 12) : (mc_ex o a b n m).1 ≤ 13 := by
  obtain ⟨pos, mask, fail, oc, reg, mem, ou⟩ := m
  have h' : pos < 12 := h
  unfold mc_ex
  simp only [apply_ite Prod.fst]
  repeat' split
  all_goals omega
theorem mc_up {ln op pl : Nat → Nat} {nu : Nat → Int32} {t : Nat} {g : Nat → Int32} (hl : ln t ≤ 12) : ∀ k, (mc_run ln op pl nu t g k).1 ≤ 13 := by
  intro k
  induction k with
  | zero => exact Nat.zero_le _
  | succ k ih =>
    by_cases h : ln t ≤ (mc_run ln op pl nu t g k).1
    · rw [show mc_run ln op pl nu t g (k + 1) = mc_run ln op pl nu t g k from mc_stay h 1]
      exact ih
    · rw [mc_runS (by omega)]
      exact mc_upE (by omega)
end
section
/-! Y: the loops of carryOut, and run -/
def yr_O (t : Nat) (m : mc_M) (D O Q T : Nat → Int32) : Prop := D t = nI (if m.2.2.1 = 0 then 1 else 0) ∧ O t = nI (if m.2.2.1 = 0 then m.2.2.2.1 else 0) ∧ T t = nI (if m.2.2.1 = 0 then m.2.1 else 0) ∧ (m.2.2.1 = 0 → ∀ k, k < m.2.2.2.1 → Q (12 * t + k) = m.2.2.2.2.2.2 k)
def yr_c (C B : Nat → Int32) (i : Nat) : Nat → Int32 := fun j => if j < i then B j else C j
theorem yr_c0 (C B : Nat → Int32) : yr_c C B 0 = C := by
  funext j
  exact if_neg (by omega)
theorem yr_cS (C B : Nat → Int32) (i : Nat) : upd (yr_c C B i) i (B i) = yr_c C B (i + 1) := by
  funext j
  by_cases h : j = i
  · subst h
    rw [pk_us]
    exact (if_pos (by omega)).symm
  · rw [pk_un h]
    unfold yr_c
    exact ft_ifc ⟨fun _ => by omega, fun _ => by omega⟩
section
variable {post : SY → Prop} {P N X Y : Int32} {C S U L M D O Q T R B : Nat → Int32} {t : Nat} {ln op pl : Nat → Nat}
theorem yw_125 (ht : t < 8) (C0 : Nat → Int32) (H : post (P, N, X, Y, (yr_c C0 B 16), S, U, L, M, D, (upd O t 0), Q, (upd T t 0), R, B)) : ∀ k i, i + k = 16 → ∀ C, C = yr_c C0 B i → wY_carryOut_125 post (nI t) P N X Y (k + 1) (nI i) C S U L M D O Q T R B := by
  intro k
  induction k with
  | zero =>
    intro i hi C eC
    have e : i = 16 := by omega
    subst e eC
    exact br_t (nI_le (a := 16) (by omega) (by omega)) (And.intro (ft_in ht) (nm_r (ft_wR (by omega)) (And.intro (ft_in ht) (nm_r (ft_wR (by omega)) H))))
  | succ k ih =>
    intro i hi C eC
    exact br_f (nI_ge (b := 16) (by omega) (by decide)) (And.intro (ft_in (by omega)) (And.intro (ft_in (by omega)) (nm_r (ft_wR (z := B i) (by omega) (ft_rR (by omega))) (nm_r (nI_1 i) (ih (i + 1) (by omega) _ (by rw [eC]; exact yr_cS _ _ _))))))
theorem yw_98 {m : mc_M} {g : Nat → Int32} (ht : t < 8) (hm : m.2.2.1 = 0 ∨ m.2.2.1 = 1) (hB : ∀ i, i < 16 → B i = g i) (hg : ∀ i, 16 ≤ i → m.2.2.2.2.2.1 i = g i) (I : yr_R t m X Y C O Q T R)
    (H : ∀ D' O' T', yr_O t m D' O' Q T' → (∀ j, j ≠ t → D' j = D j) → yr_F t O Q T O' Q T' → post (P, N, X, Y, (if m.2.2.1 = 0 then m.2.2.2.2.2.1 else g), S, U, L, M, (D'), (O'), Q, (T'), R, B)) : wY_carryOut_98 post (nI t) P N X Y C S U L M D O Q T R B := by
  obtain ⟨i1, i2, i3, i4, i5, i6, i7⟩ := I
  unfold wY_carryOut_98
  rcases hm with h | h
  · rw [h] at i2
    refine br_t i2 ?_
    unfold wY_carryOut_115
    refine And.intro (ft_in ht) (nm_r (ft_wR (z := 1) (by omega)) (br_t i2 ?_))
    have := H (upd D t 1) O T ⟨by rw [pk_us, if_pos h]; rfl, by rw [if_pos h]; exact i4, by rw [if_pos h]; exact i6, fun _ => i5⟩ (fun j hj => pk_un hj) (yr_Fr t O Q T)
    rw [if_pos h, ← i3] at this
    exact this
  · rw [h] at i2
    have hY : ¬ Y = 0 := by rw [i2]; decide
    have h0 : ¬ m.2.2.1 = 0 := by omega
    refine br_f hY ?_
    unfold wY_carryOut_115
    refine And.intro (ft_in ht) (nm_r (ft_wR (z := 0) (by omega)) (br_f hY ⟨17, yw_125 ht C ?_ 16 0 rfl _ (yr_c0 _ _).symm⟩))
    have := H (upd D t 0) (upd O t 0) (upd T t 0) ⟨by rw [pk_us, if_neg h0]; rfl, by rw [pk_us, if_neg h0]; rfl, by rw [pk_us, if_neg h0]; rfl, fun e => absurd e h0⟩ (fun j hj => pk_un hj) ⟨fun j hj => pk_un hj, fun j hj => pk_un hj, fun _ _ => rfl⟩
    rw [if_neg h0] at this
    have e : yr_c C B 16 = g := by
      funext i
      unfold yr_c
      by_cases hi : i < 16
      · rw [if_pos hi, hB i hi]
      · rw [if_neg hi, i3, hg i (by omega)]
    rw [e]
    exact this
theorem yw_70 {g : Nat → Int32} (ht : t < 8) (hS : S = ft_nA ln) (hU : U = ft_nA op) (hL : L = ft_nA pl) (hl : ln t ≤ 12) (hb : ∀ j, j < 96 → op j ≤ 11 ∧ pl j ≤ 15) : ∀ d k, k + d = 12 → ∀ X Y C O Q T R, yr_R t (mc_run ln op pl M t g k) X Y C O Q T R → (∀ X' Y' C' O' Q' T' R', yr_R t (sq_m ln op pl M t g) X' Y' C' O' Q' T' R' → yr_F t O Q T O' Q' T' → wY_carryOut_98 post (nI t) P N (X') (Y') (C') S U L M D (O') (Q') (T') (R') B) → wY_carryOut_70 post (nI t) (d + 1) P N X Y C S U L M D O Q T R B := by
  subst hS hU hL
  intro d
  induction d with
  | zero =>
    intro k hk X Y C O Q T R I H
    have e : k = 12 := by omega
    subst e
    have h98 := H X Y C O Q T R I (yr_Fr t O Q T)
    rcases (mc_fl (op := op) (pl := pl) (nu := M) (g := g) hl 12).1 with hf | ⟨hf, _⟩
    · have hx := I.1 hf
      refine And.intro (ft_in ht) (br_t ?_ h98)
      rw [ft_rd (i := t) (by omega), hx]
      have h1 := mc_hal (op := op) (pl := pl) (nu := M) (g := g) hl
      have h2 := mc_up (op := op) (pl := pl) (nu := M) (g := g) hl 12
      exact nI_le h1 (by omega)
    · have hY : ¬ Y = 0 := by rw [I.2.1, hf]; decide
      exact And.intro (ft_in ht) (br_c (fun _ => h98) (fun _ => br_f hY h98))
  | succ d ih =>
    intro k hk X Y C O Q T R I H
    have h2 := mc_up (op := op) (pl := pl) (nu := M) (g := g) hl k
    obtain ⟨h3, h4⟩ := mc_fl (op := op) (pl := pl) (nu := M) (g := g) hl k
    by_cases hh : ln t ≤ (mc_run ln op pl M t g k).1
    · have e := mc_end hl hh
      have I' := I
      rw [e] at I'
      have h98 := H X Y C O Q T R I' (yr_Fr t O Q T)
      rcases h3 with hf | ⟨hf, _⟩
      · refine And.intro (ft_in ht) (br_t ?_ h98)
        rw [ft_rd (i := t) (by omega), I.1 hf]
        exact nI_le hh (by omega)
      · have hY : ¬ Y = 0 := by rw [I.2.1, hf]; decide
        exact And.intro (ft_in ht) (br_c (fun _ => h98) (fun _ => br_f hY h98))
    · have hf : (mc_run ln op pl M t g k).2.2.1 = 0 := by
        rcases h3 with hf | hf
        · exact hf
        · omega
      have hY : Y = 0 := by rw [I.2.1, hf]; rfl
      refine And.intro (ft_in ht) (br_f ?_ (br_t hY ?_))
      · rw [ft_rd (i := t) (by omega), I.1 hf]
        exact nI_ge (by omega) (by omega)
      · refine yw_st (op := op) (pl := pl) ht rfl rfl hb (by omega) hf (by omega) I (fun X' Y' C' O' Q' T' R' I' F' => ?_)
        rw [← mc_runS (by omega)] at I'
        exact ih (k + 1) (by omega) X' Y' C' O' Q' T' R' I' (fun X'' Y'' C'' O'' Q'' T'' R'' I'' F'' => H X'' Y'' C'' O'' Q'' T'' R'' I'' (yr_Ft F' F''))
/-- zero the registers -/
theorem yw_28 {g : Nat → Int32} (ht : t < 8) (hS : S = ft_nA ln) (hU : U = ft_nA op) (hL : L = ft_nA pl) (hl : ln t ≤ 12) (hb : ∀ j, j < 96 → op j ≤ 11 ∧ pl j ≤ 15) (hC : C = g)
    (H : ∀ X' Y' C' O' Q' T' R', yr_R t (sq_m ln op pl M t g) X' Y' C' O' Q' T' R' → yr_F t O Q T O' Q' T' → wY_carryOut_98 post (nI t) P N (X') (Y') (C') S U L M D (O') (Q') (T') (R') B) : ∀ k r, r + k = 4 → ∀ R, (∀ i, i < r → R i = 0) → wY_carryOut_28 post (nI t) P N X Y (k + 1) (nI r) C S U L M D O Q T R B := by
  intro k
  induction k with
  | zero =>
    intro r hr R hR
    refine br_t (nI_le (a := 4) (by omega) (by omega)) (And.intro (ft_in ht) (nm_r (ft_wR (by omega)) (And.intro (ft_in ht) (nm_r (ft_wR (by omega)) ⟨13, ?_⟩))))
    refine yw_70 (g := g) ht hS hU hL hl hb 12 0 rfl 0 0 C (upd O t 0) Q (upd T t 0) R ?_ (fun X' Y' C' O' Q' T' R' I' F' => H X' Y' C' O' Q' T' R' I' ?_)
    · exact ⟨fun _ => rfl, rfl, hC, pk_us, fun k hk => absurd hk (Nat.not_lt_zero _), pk_us, fun i hi => hR i (by omega)⟩
    · exact ⟨fun j hj => (F'.1 j hj).trans (pk_un hj), fun j hj => (F'.2.1 j hj).trans (pk_un hj), F'.2.2⟩
  | succ k ih =>
    intro r hr R hR
    refine br_f (nI_ge (b := 4) (by omega) (by decide)) (And.intro (ft_in (by omega)) (nm_r (ft_wR (by omega)) (nm_r (nI_1 r) (ih (r + 1) (by omega) _ ?_))))
    intro i hi
    by_cases e : i = r
    · subst e
      exact pk_us
    · rw [pk_un e]
      exact hR i (by omega)
/-- copy the cells -/
theorem yw_2 {g : Nat → Int32} (hC : C = g) (H : ∀ B', (∀ i, i < 16 → B' i = g i) → wY_carryOut_28 post (nI t) P N X Y 5 0 C S U L M D O Q T R (B')) : ∀ k i, i + k = 16 → ∀ B, (∀ j, j < i → B j = g j) → wY_carryOut_2 post (nI t) P N X Y (k + 1) (nI i) C S U L M D O Q T R B := by
  intro k
  induction k with
  | zero =>
    intro i hi B hB
    exact br_t (nI_le (a := 16) (by omega) (by omega)) ⟨5, H B (fun j hj => hB j (by omega))⟩
  | succ k ih =>
    intro i hi B hB
    refine br_f (nI_ge (b := 16) (by omega) (by decide)) (And.intro (ft_in (by omega)) (And.intro (ft_in (by omega)) (nm_r (ft_wR (z := C i) (by omega) (ft_rR (by omega))) (nm_r (nI_1 i) (ih (i + 1) (by omega) _ ?_)))))
    intro j hj
    by_cases e : j = i
    · subst e
      rw [pk_us, hC]
    · rw [pk_un e]
      exact hB j (by omega)
theorem yw_carryOut (ht : t < 8) (hS : S = ft_nA ln) (hU : U = ft_nA op) (hL : L = ft_nA pl) (hl : ln t ≤ 12) (hb : ∀ j, j < 96 → op j ≤ 11 ∧ pl j ≤ 15)
    (H : ∀ X' Y' D' O' Q' T' R' B', yr_O t (sq_m ln op pl M t C) D' O' Q' T' → (∀ j, j ≠ t → D' j = D j) → yr_F t O Q T O' Q' T' → post (P, N, (X'), (Y'), (if (sq_m ln op pl M t C).2.2.1 = 0 then (sq_m ln op pl M t C).2.2.2.2.2.1 else C), S, U, L, M, (D'), (O'), (Q'), (T'), (R'), (B'))) : wpY_carryOut post (P, N, X, Y, C, S, U, L, M, D, O, Q, T, R, B) (nI t) := by
  unfold wpY_carryOut
  refine ⟨17, yw_2 (g := C) rfl (fun B' hB' => ?_) 16 0 rfl B (fun j hj => absurd hj (Nat.not_lt_zero _))⟩
  refine yw_28 (g := C) ht hS hU hL hl hb rfl (fun X' Y' C' O' Q' T' R' I' F' => ?_) 4 0 rfl R (fun j hj => absurd hj (Nat.not_lt_zero _))
  refine yw_98 (g := C) ht ?_ hB' (fun i hi => mc_hi hi 12) I' (fun D' O'' T'' h1 h2 h3 => H X' Y' D' O'' Q' T'' R' B' h1 h2 (yr_Ft F' h3))
  rcases (mc_fl (op := op) (pl := pl) (nu := M) (g := C) hl 12).1 with hf | hf
  · exact Or.inl hf
  · exact Or.inr hf.1
end
theorem ft_ctE {f f' : Nat → Nat} : ∀ n, (∀ j, j < n → f' j = f j) → ft_ct f' n = ft_ct f n := by
  intro n
  induction n with
  | zero => intro _; rfl
  | succ n ih =>
    intro h
    show ft_ct f' n + (if f' n = 0 then 1 else 0) = ft_ct f n + (if f n = 0 then 1 else 0)
    rw [ih (fun j hj => h j (by omega)), h n (by omega)]
/-- what came out of the first n -/
def yr_A (ln op pl : Nat → Nat) (nu g : Nat → Int32) (n : Nat) (D O Q T : Nat → Int32) : Prop := ∀ s, s < n → yr_O s (sq_m ln op pl nu s (sq_S ln op pl nu g s)) D O Q T
section
variable {post : Int32 → SY → Prop} {P X Y : Int32} {C S U L M D O Q T R B : Nat → Int32} {ln op pl : Nat → Nat}
theorem yw_run15 {g : Nat → Int32} {n : Nat} (hn : n ≤ 8) (hS : S = ft_nA ln) (hU : U = ft_nA op) (hL : L = ft_nA pl) (hl : ∀ j, j < 8 → ln j ≤ 12) (hb : ∀ j, j < 96 → op j ≤ 11 ∧ pl j ≤ 15)
    (H : ∀ X' Y' D' O' Q' T' R' B', yr_A ln op pl M g n D' O' Q' T' → post (nI (ft_ct (fun s => (sq_m ln op pl M s (sq_S ln op pl M g s)).2.2.1) n)) ((2), (nI n), (X'), (Y'), (sq_S ln op pl M g n), S, U, L, M, (D'), (O'), (Q'), (T'), (R'), (B'))) : ∀ k t, t + k = n → ∀ X Y C D O Q T R B, C = sq_S ln op pl M g t → yr_A ln op pl M g t D O Q T → wY_run_15 post (k + 1) (nI (ft_ct (fun s => (sq_m ln op pl M s (sq_S ln op pl M g s)).2.2.1) t)) (nI t) P (nI n) X Y C S U L M D O Q T R B := by
  intro k
  induction k with
  | zero =>
    intro t ht X Y C D O Q T R B hC hA
    have e : t = n := by omega
    subst e hC
    exact br_t (nI_le (by omega) (by omega)) (H X Y D O Q T R B hA)
  | succ k ih =>
    intro t ht X Y C D O Q T R B hC hA
    subst hC
    refine br_f (nI_ge (by omega) (by omega)) (yw_carryOut (by omega) hS hU hL (hl t (by omega)) hb (fun X' Y' D' O' Q' T' R' B' h1 h2 h3 => And.intro (ft_in (by omega)) ?_))
    have hA' : yr_A ln op pl M g (t + 1) D' O' Q' T' := by
      intro s hs
      by_cases e : s = t
      · subst e
        exact h1
      · obtain ⟨a1, a2, a3, a4⟩ := hA s (by omega)
        have ho := (mc_fl (op := op) (pl := pl) (nu := M) (g := sq_S ln op pl M g s) (hl s (by omega)) 12).2
        have ho' : (sq_m ln op pl M s (sq_S ln op pl M g s)).2.2.2.1 ≤ 12 := ho
        exact ⟨(h2 s e).trans a1, (h3.1 s e).trans a2, (h3.2.1 s e).trans a3, fun hf k hk => (h3.2.2 _ (by omega)).trans (a4 hf k hk)⟩
    have ih' := ih (t + 1) (by omega) X' Y' (sq_S ln op pl M g (t + 1)) D' O' Q' T' R' B' rfl hA'
    by_cases hf : (sq_m ln op pl M t (sq_S ln op pl M g t)).2.2.1 = 0
    · have hD : D' (nI t).toNatClampNeg = 1 := by
        rw [ft_rR (a := D') (i := t) (by omega), h1.1, if_pos hf]
        rfl
      have e2 : ft_ct (fun s => (sq_m ln op pl M s (sq_S ln op pl M g s)).2.2.1) (t + 1) = ft_ct (fun s => (sq_m ln op pl M s (sq_S ln op pl M g s)).2.2.1) t + 1 := by
        show ft_ct _ t + (if (sq_m ln op pl M t (sq_S ln op pl M g t)).2.2.1 = 0 then 1 else 0) = _
        rw [if_pos hf]
      rw [e2] at ih'
      exact br_f (by rw [hD]; decide) (nm_r (nI_1 _) (nm_r (nI_1 t) ih'))
    · have hD : D' (nI t).toNatClampNeg = 0 := by
        rw [ft_rR (a := D') (i := t) (by omega), h1.1, if_neg hf]
        rfl
      have e2 : ft_ct (fun s => (sq_m ln op pl M s (sq_S ln op pl M g s)).2.2.1) (t + 1) = ft_ct (fun s => (sq_m ln op pl M s (sq_S ln op pl M g s)).2.2.1) t := by
        show ft_ct _ t + (if (sq_m ln op pl M t (sq_S ln op pl M g t)).2.2.1 = 0 then 1 else 0) = _
        rw [if_neg hf, Nat.add_zero]
      rw [e2] at ih'
      exact br_t hD (nm_r (nI_1 t) ih')
theorem yw_run {n : Nat} {v1 : Int32} (hP : ¬ P = 2) (hn : n ≤ 8) (hS : S = ft_nA ln) (hU : U = ft_nA op) (hL : L = ft_nA pl) (hl : ∀ j, j < 8 → ln j ≤ 12) (hb : ∀ j, j < 96 → op j ≤ 11 ∧ pl j ≤ 15)
    (H : ∀ X' Y' D' O' Q' T' R' B', yr_A ln op pl M C n D' O' Q' T' → post (nI (ft_ct (fun s => (sq_m ln op pl M s (sq_S ln op pl M C s)).2.2.1) n)) ((2), (nI n), (X'), (Y'), (sq_S ln op pl M C n), S, U, L, M, (D'), (O'), (Q'), (T'), (R'), (B'))) : wpY_run post (P, (nI n), X, Y, C, S, U, L, M, D, O, Q, T, R, B) v1 := by
  unfold wpY_run
  exact br_f hP ⟨n + 1, yw_run15 hn hS hU hL hl hb H n 0 (by omega) X Y C D O Q T R B rfl (fun s hs => absurd hs (Nat.not_lt_zero _))⟩
end
end
section
/-! X: faults finds nothing -/
def iv_F (σ : Nat → Nat → Nat) : Prop := iv_B ((σ 0 0)) ((σ 2 0)) ((σ 9)) ((σ 10)) ((σ 11)) ((σ 14)) ((σ 22)) ∧ iv_1 ((σ 0 0)) ((σ 3 0)) ((σ 4 0)) ∧ (∀ j, j < 8 → (σ 16) j < 4 ∧ (σ 19) j ≤ 12 ∧ (σ 24) j ≤ 12 ∧ (σ 23) j ≤ 1) ∧ iv_7 ((σ 0 0)) ((σ 16)) ((σ 18)) ∧ iv_8 ((σ 0 0)) ((σ 3 0)) ((σ 16)) ∧ iv_10 ((σ 16)) ((σ 17)) ((σ 19)) ((σ 20)) ((σ 21)) ((σ 22))
theorem iv_FI {q : Nat} {E : Nat → Prop} {σ : Nat → Nat → Nat} {ρ : Nat → Nat → Int32} (I : iv_I q E σ ρ) : iv_F σ := by
  obtain ⟨hB, h1, h2, h3, h4, h5, h6, h7, h8, h9, h10, h11, h12, h13⟩ := I
  exact ⟨hB, h1, fun j hj => ⟨(h2 j hj).1, (h2 j hj).2.2.2.1, (h2 j hj).2.2.2.2.1, (h2 j hj).2.2.2.2.2⟩, h7, h8, h10⟩
section
variable {post : SX → Prop} {σ : Nat → Nat → Nat} {ρ : Nat → Nat → Int32}
theorem xf_expect (h : post (ft_cv σ ρ)) : wpX_expect post (ft_cv σ ρ) 1 := by
  unfold wpX_expect ft_cv
  exact br_f (by decide) (nm_r (Int32.add_zero _) h)
theorem xf_54 {w t : Nat} (hw : w < 6) (ht : t < 8) (hb : ∀ v, v < w → (σ 26) v ≤ 2 ∧ ((σ 26) v = 1 → (σ 27) v < 8 ∧ (σ 27) v ≠ t)) (h : post (ft_cv σ ρ)) : ∀ k v, v + k = w → wX_checkWorker_54 post (nI w) (nI t) (k + 1) (nI v) (nI (σ 0 0)) (nI (σ 1 0)) (nI (σ 2 0)) (nI (σ 3 0)) (nI (σ 4 0)) (ρ 5 0) (nI (σ 6 0)) (ρ 7 0) (ρ 8) (ft_nA (σ 9)) (ft_nA (σ 10)) (ft_nA (σ 11)) (ρ 12) (ρ 13) (ft_nA (σ 14)) (ft_nA (σ 15)) (ft_nA (σ 16)) (ft_nA (σ 17)) (ft_nA (σ 18)) (ft_nA (σ 19)) (ft_nA (σ 20)) (ft_nB (σ 21)) (ft_nA (σ 22)) (ft_nA (σ 23)) (ft_nA (σ 24)) (ρ 25) (ft_nA (σ 26)) (ft_nA (σ 27)) (ft_nA (σ 28)) (ft_nA (σ 29)) (ρ 30) (ft_nA (σ 31)) (ρ 32) (ft_nA (σ 33)) := by
  intro k
  induction k with
  | zero =>
    intro v hv
    exact br_t (nI_le (by omega) (by omega)) h
  | succ k ih =>
    intro v hv
    obtain ⟨b1, b2⟩ := hb v (by omega)
    have go : wX_checkWorker_80 post (wX_checkWorker_54 post (nI w) (nI t) (k + 1)) (nI w) (nI t) (nI v) (nI (σ 0 0)) (nI (σ 1 0)) (nI (σ 2 0)) (nI (σ 3 0)) (nI (σ 4 0)) (ρ 5 0) (nI (σ 6 0)) (ρ 7 0) (ρ 8) (ft_nA (σ 9)) (ft_nA (σ 10)) (ft_nA (σ 11)) (ρ 12) (ρ 13) (ft_nA (σ 14)) (ft_nA (σ 15)) (ft_nA (σ 16)) (ft_nA (σ 17)) (ft_nA (σ 18)) (ft_nA (σ 19)) (ft_nA (σ 20)) (ft_nB (σ 21)) (ft_nA (σ 22)) (ft_nA (σ 23)) (ft_nA (σ 24)) (ρ 25) (ft_nA (σ 26)) (ft_nA (σ 27)) (ft_nA (σ 28)) (ft_nA (σ 29)) (ρ 30) (ft_nA (σ 31)) (ρ 32) (ft_nA (σ 33)) := by
      unfold wX_checkWorker_80 wX_checkWorker_85
      exact xf_expect (σ := σ) (ρ := ρ) (nm_r (nI_1 v) (ih (v + 1) (by omega)))
    refine br_f (nI_ge (by omega) (by omega)) (And.intro (ft_in (by omega)) (pk_eq ((σ 26) v) 1 (fun e => And.intro (ft_in (by omega)) (pk_eq ((σ 27) v) t (fun e' => absurd e' (b2 e).2) (fun _ => go) (ft_rd (by omega)) rfl (by have := (b2 e).1; omega) (by omega))) (fun _ => go) (ft_rd (by omega)) rfl (by omega) (by omega)))
theorem xf_worker {w : Nat} (hw : w < (σ 2 0)) (h6 : (σ 2 0) ≤ 6) (h8 : (σ 0 0) ≤ 8) (hclk : (σ 6 0) < 2147483648) (h2 : iv_2 0 ((σ 6 0)) ((σ 16)) ((σ 17)) ((σ 15)) ((σ 19)) ((σ 24)) ((σ 23))) (h3 : iv_3 ((σ 0 0)) ((σ 2 0)) ((σ 16)) ((σ 17)) ((σ 26)) ((σ 27)) ((σ 28))) (h4 : iv_4 ((σ 2 0)) ((σ 26)) ((σ 27))) (h : post (ft_cv σ ρ)) : wpX_checkWorker post (ft_cv σ ρ) (nI w) := by
  obtain ⟨a1, a2, a3⟩ := h3 w hw
  unfold wpX_checkWorker ft_cv
  refine And.intro (ft_in (by omega)) (pk_eq ((σ 26) w) 1 (fun e => And.intro (ft_in (by omega)) (nm_r (ft_rd (by omega)) ?_)) (fun _ => h) (ft_rd (by omega)) rfl (by omega) (by omega))
  obtain ⟨c1, c2⟩ := a2 (by omega)
  obtain ⟨c3, c4⟩ := a3 e
  have ht := (h2 _ (show (σ 27) w < 8 by omega)).2.1
  refine And.intro (ft_in (by omega)) (pk_eq ((σ 16) ((σ 27) w)) 1 (fun _ => And.intro (ft_in (by omega)) (And.intro (ft_in (by omega)) (pk_eq ((σ 17) ((σ 27) w)) ((σ 28) w) (fun _ => ?_) (fun e' => absurd c4.symm e') (ft_rd (by omega)) (ft_rd (by omega)) (by omega) (by omega)))) (fun e' => absurd c3 e') (ft_rd (by omega)) rfl (by omega) (by omega))
  unfold wX_checkWorker_49
  refine xf_expect (σ := σ) (ρ := ρ) ⟨w + 1, xf_54 (by omega) (by omega) (fun v hv => ⟨(h3 v (by omega)).1, fun e' => ⟨?_, fun e'' => ?_⟩⟩) h w 0 (by omega)⟩
  · have := ((h3 v (by omega)).2.1 (by omega)).1
    omega
  · have := h4 v w (by omega) hw e' e e''
    omega
/-- how many of the first n are waited for by t -/
def xf_c (wt : Nat → Nat) (t : Nat) : Nat → Nat
  | 0 => 0
  | b + 1 => xf_c wt t b + (if (wt b).testBit t = true then 1 else 0)
theorem xf_c0 {wt : Nat → Nat} {t : Nat} : ∀ n, (∀ b, b < n → ¬ (wt b).testBit t = true) → xf_c wt t n = 0 := by
  intro n
  induction n with
  | zero => intro _; rfl
  | succ n ih =>
    intro h
    show xf_c wt t n + (if (wt n).testBit t = true then 1 else 0) = 0
    rw [ih (fun b hb => h b (by omega)), if_neg (h n (by omega))]
theorem xf_c1 {wt : Nat → Nat} {t b0 : Nat} (h0 : (wt b0).testBit t = true) : ∀ n, b0 < n → (∀ b, b < n → (wt b).testBit t = true → b = b0) → xf_c wt t n = 1 := by
  intro n
  induction n with
  | zero => intro h; omega
  | succ n ih =>
    intro hn h
    show xf_c wt t n + (if (wt n).testBit t = true then 1 else 0) = 1
    by_cases e : b0 = n
    · subst e
      rw [xf_c0 b0 (fun b hb hbit => by have := h b (by omega) hbit; omega), if_pos h0]
    · rw [ih (by omega) (fun b hb => h b (by omega)), if_neg (fun hbit => e (h n (by omega) hbit).symm)]
theorem xf_cL {wt : Nat → Nat} {t : Nat} : ∀ n, xf_c wt t n ≤ n := by
  intro n
  induction n with
  | zero => exact Nat.le_refl _
  | succ n ih =>
    show xf_c wt t n + (if (wt n).testBit t = true then 1 else 0) ≤ n + 1
    split <;> omega
theorem xf_152 {t : Nat} (ht : t < 8) (hr : (σ 19) t ≤ 12) (hf : ∀ k, k < (σ 19) t → (σ 21) (12 * t + k) ≤ t) (h : post (ft_cv σ ρ)) : ∀ d k, k + d = (σ 19) t → wX_checkTransaction_152 post (nI t) (d + 1) (nI k) (nI (σ 0 0)) (nI (σ 1 0)) (nI (σ 2 0)) (nI (σ 3 0)) (nI (σ 4 0)) (ρ 5 0) (nI (σ 6 0)) (ρ 7 0) (ρ 8) (ft_nA (σ 9)) (ft_nA (σ 10)) (ft_nA (σ 11)) (ρ 12) (ρ 13) (ft_nA (σ 14)) (ft_nA (σ 15)) (ft_nA (σ 16)) (ft_nA (σ 17)) (ft_nA (σ 18)) (ft_nA (σ 19)) (ft_nA (σ 20)) (ft_nB (σ 21)) (ft_nA (σ 22)) (ft_nA (σ 23)) (ft_nA (σ 24)) (ρ 25) (ft_nA (σ 26)) (ft_nA (σ 27)) (ft_nA (σ 28)) (ft_nA (σ 29)) (ρ 30) (ft_nA (σ 31)) (ρ 32) (ft_nA (σ 33)) := by
  intro d
  induction d with
  | zero =>
    intro k hk
    refine And.intro (ft_in ht) (br_t ?_ h)
    rw [ft_rd (i := t) (by omega)]
    exact nI_le (by omega) (by omega)
  | succ d ih =>
    intro k hk
    have hk' := hf k (by omega)
    refine And.intro (ft_in ht) (br_f ?_ (And.intro (ft_inE (ft_l12 t k) (by omega)) (br_f ?_ ?_)))
    · rw [ft_rd (i := t) (by omega)]
      exact nI_ge (by omega) (by omega)
    · rw [ft_l12 t k, ft_rdB (i := 12 * t + k) (by omega)]
      by_cases e : (σ 21) (12 * t + k) = 0
      · rw [e]
        intro hle
        have h1 : (nI t).toInt = (t : Int) := nI_toInt (by omega)
        have h2 : (nI 0 - 1 : Int32).toInt = -1 := by decide
        rw [Int32.le_iff_toInt_le, h1, h2] at hle
        omega
      · obtain ⟨f, hf⟩ : ∃ f, (σ 21) (12 * t + k) = f + 1 := ⟨(σ 21) (12 * t + k) - 1, by omega⟩
        rw [hf, nI_pred]
        exact nI_ge (by omega) (by omega)
    · unfold wX_checkTransaction_183
      exact xf_expect (σ := σ) (ρ := ρ) (nm_r (nI_1 k) (ih (k + 1) (by omega)))
theorem xf_147 {t : Nat} (ht : t < 8) (hr : (σ 19) t ≤ 12) (hf : ∀ k, k < (σ 19) t → (σ 21) (12 * t + k) ≤ t) (h : post (ft_cv σ ρ)) : wX_checkTransaction_147 post (nI t) 1 (nI (σ 0 0)) (nI (σ 1 0)) (nI (σ 2 0)) (nI (σ 3 0)) (nI (σ 4 0)) (ρ 5 0) (nI (σ 6 0)) (ρ 7 0) (ρ 8) (ft_nA (σ 9)) (ft_nA (σ 10)) (ft_nA (σ 11)) (ρ 12) (ρ 13) (ft_nA (σ 14)) (ft_nA (σ 15)) (ft_nA (σ 16)) (ft_nA (σ 17)) (ft_nA (σ 18)) (ft_nA (σ 19)) (ft_nA (σ 20)) (ft_nB (σ 21)) (ft_nA (σ 22)) (ft_nA (σ 23)) (ft_nA (σ 24)) (ρ 25) (ft_nA (σ 26)) (ft_nA (σ 27)) (ft_nA (σ 28)) (ft_nA (σ 29)) (ρ 30) (ft_nA (σ 31)) (ρ 32) (ft_nA (σ 33)) := by
  unfold wX_checkTransaction_147
  exact xf_expect (σ := σ) (ρ := ρ) ⟨(σ 19) t + 1, xf_152 ht hr hf h ((σ 19) t) 0 (by omega)⟩
theorem xf_117 {t : Nat} (F : iv_F σ) (hc : t < (σ 0 0)) (h : post (ft_cv σ ρ)) : wX_checkTransaction_117 post (nI t) 1 (nI (σ 0 0)) (nI (σ 1 0)) (nI (σ 2 0)) (nI (σ 3 0)) (nI (σ 4 0)) (ρ 5 0) (nI (σ 6 0)) (ρ 7 0) (ρ 8) (ft_nA (σ 9)) (ft_nA (σ 10)) (ft_nA (σ 11)) (ρ 12) (ρ 13) (ft_nA (σ 14)) (ft_nA (σ 15)) (ft_nA (σ 16)) (ft_nA (σ 17)) (ft_nA (σ 18)) (ft_nA (σ 19)) (ft_nA (σ 20)) (ft_nB (σ 21)) (ft_nA (σ 22)) (ft_nA (σ 23)) (ft_nA (σ 24)) (ρ 25) (ft_nA (σ 26)) (ft_nA (σ 27)) (ft_nA (σ 28)) (ft_nA (σ 29)) (ρ 30) (ft_nA (σ 31)) (ρ 32) (ft_nA (σ 33)) := by
  obtain ⟨hB, h1, h2, h7, h8, h10⟩ := F
  have h8c := hB.1
  have hn := h1.1
  obtain ⟨b1, b2, b3, b4⟩ := h2 t (by omega)
  have g := xf_147 (post := post) (σ := σ) (ρ := ρ) (t := t) (by omega) b2 (fun k hk => (h10 t k (by omega) hk).2.1) h
  unfold wX_checkTransaction_117
  exact xf_expect (σ := σ) (ρ := ρ) (And.intro (ft_in (by omega)) (pk_eq ((σ 16) t) 0 (fun e => pk_lt t ((σ 3 0)) (fun hlt => absurd (h8 t hc e) (by omega)) (fun _ => g)) (fun _ => g) (ft_rd (by omega)) rfl (by omega) (by omega)))
theorem xf_39 {t : Nat} (F : iv_F σ) (hc : t < (σ 0 0)) (h : post (ft_cv σ ρ)) : ∀ k b, b + k = 8 → wX_checkTransaction_39 post (nI t) (k + 1) (nI (xf_c ((σ 18)) t b)) (nI b) (nI (σ 0 0)) (nI (σ 1 0)) (nI (σ 2 0)) (nI (σ 3 0)) (nI (σ 4 0)) (ρ 5 0) (nI (σ 6 0)) (ρ 7 0) (ρ 8) (ft_nA (σ 9)) (ft_nA (σ 10)) (ft_nA (σ 11)) (ρ 12) (ρ 13) (ft_nA (σ 14)) (ft_nA (σ 15)) (ft_nA (σ 16)) (ft_nA (σ 17)) (ft_nA (σ 18)) (ft_nA (σ 19)) (ft_nA (σ 20)) (ft_nB (σ 21)) (ft_nA (σ 22)) (ft_nA (σ 23)) (ft_nA (σ 24)) (ρ 25) (ft_nA (σ 26)) (ft_nA (σ 27)) (ft_nA (σ 28)) (ft_nA (σ 29)) (ρ 30) (ft_nA (σ 31)) (ρ 32) (ft_nA (σ 33)) := by
  have g := xf_117 (post := post) (σ := σ) (ρ := ρ) F hc h
  obtain ⟨hB, h1, h2, h7, h8, h10⟩ := F
  have h8c := hB.1
  obtain ⟨b1, b2, b3, b4⟩ := h2 t (by omega)
  have hcount : xf_c ((σ 18)) t 8 = if (σ 16) t = 3 then 1 else 0 := by
    by_cases e : (σ 16) t = 3
    · rw [if_pos e]
      obtain ⟨b, hb, hbit⟩ := h7.2.1 t hc e
      exact xf_c1 hbit 8 (by omega) (fun b' hb' hbit' => h7.2.2 b' b t hb' (by omega) (by omega) hbit' hbit)
    · rw [if_neg e]
      exact xf_c0 8 (fun b hb hbit => e (h7.1 b t hb (by omega) hbit).2.2.1)
  intro k
  induction k with
  | zero =>
    intro b hb
    have e : b = 8 := by omega
    subst e
    rw [hcount]
    refine br_t (nI_le (a := 8) (by omega) (by omega)) (And.intro (ft_in (by omega)) (pk_eq ((σ 16) t) 3 (fun e => ?_) (fun e => ?_) (ft_rd (by omega)) rfl (by omega) (by omega)))
    · rw [if_pos e]
      exact br_t rfl g
    · rw [if_neg e]
      exact br_t rfl g
  | succ k ih =>
    intro b hb
    have hL := xf_cL (wt := (σ 18)) (t := t) b
    have ih' := ih (b + 1) (by omega)
    refine br_f (nI_ge (b := 8) (by omega) (by decide)) (And.intro (ft_in (by omega)) (ek_if (d := ((σ 18) b).testBit t = true) (ft_bitA (by omega) (by omega)) (fun hbit => nm_r (nI_1 _) ?_) (fun hbit => nm_r (nI_1 b) ?_)))
    · obtain ⟨c1, c2, c3, c4⟩ := h7.1 b t (by omega) (by omega) hbit
      have e2 : xf_c ((σ 18)) t (b + 1) = xf_c ((σ 18)) t b + 1 := by
        show xf_c ((σ 18)) t b + (if ((σ 18) b).testBit t = true then 1 else 0) = _
        rw [if_pos hbit]
      rw [e2] at ih'
      refine br_f (nI_ge c1 (by omega)) (And.intro (ft_in (by omega)) (pk_eq ((σ 16) b) 2 (fun e => absurd e c4) (fun _ => ?_) (ft_rd (by omega)) rfl (by have := (h2 b (by omega)).1; omega) (by omega)))
      unfold wX_checkTransaction_83
      exact xf_expect (σ := σ) (ρ := ρ) (nm_r (nI_1 b) ih')
    · have e2 : xf_c ((σ 18)) t (b + 1) = xf_c ((σ 18)) t b := by
        show xf_c ((σ 18)) t b + (if ((σ 18) b).testBit t = true then 1 else 0) = _
        rw [if_neg hbit, Nat.add_zero]
      rw [e2] at ih'
      exact ih'
theorem xf_trans {t : Nat} (F : iv_F σ) (hc : t < (σ 0 0)) (hph : (σ 1 0) = 1 ∨ ((σ 1 0) = 2 ∧ (σ 16) t = 2 ∧ ft_rh σ t)) (h : post (ft_cv σ ρ)) : wpX_checkTransaction post (ft_cv σ ρ) (nI t) := by
  have g27 : wX_checkTransaction_27 post (nI t) (nI (σ 0 0)) (nI (σ 1 0)) (nI (σ 2 0)) (nI (σ 3 0)) (nI (σ 4 0)) (ρ 5 0) (nI (σ 6 0)) (ρ 7 0) (ρ 8) (ft_nA (σ 9)) (ft_nA (σ 10)) (ft_nA (σ 11)) (ρ 12) (ρ 13) (ft_nA (σ 14)) (ft_nA (σ 15)) (ft_nA (σ 16)) (ft_nA (σ 17)) (ft_nA (σ 18)) (ft_nA (σ 19)) (ft_nA (σ 20)) (ft_nB (σ 21)) (ft_nA (σ 22)) (ft_nA (σ 23)) (ft_nA (σ 24)) (ρ 25) (ft_nA (σ 26)) (ft_nA (σ 27)) (ft_nA (σ 28)) (ft_nA (σ 29)) (ρ 30) (ft_nA (σ 31)) (ρ 32) (ft_nA (σ 33)) := by
    unfold wX_checkTransaction_27 wX_checkTransaction_32
    exact xf_expect (σ := σ) (ρ := ρ) ⟨9, xf_39 F hc h 8 0 rfl⟩
  obtain ⟨hB, h1, h2, h7, h8, h10⟩ := F
  have h8c := hB.1
  unfold wpX_checkTransaction ft_cv
  refine pk_eq ((σ 1 0)) 1 (fun _ => g27) (fun e => And.intro (ft_in (by omega)) ?_) rfl rfl (by omega) (by omega)
  have hp : (σ 16) t = 2 ∧ ft_rh σ t := by
    rcases hph with h | h
    · exact absurd h e
    · exact h.2
  refine pk_eq ((σ 16) t) 2 (fun _ => ?_) (fun e' => absurd hp.1 e') (ft_rd (by omega)) rfl (by omega) (by omega)
  refine xw_readsHold (σ := σ) (ρ := ρ) (by omega) ⟨(h2 t (by omega)).2.1, fun k hk => ?_, fun j hj => (h2 j hj).1, hB.2.2.2.2.2.1, hB.2.2.2.2.2.2⟩ (fun _ => br_f (by decide) g27) (fun hn => absurd hp.2 hn)
  obtain ⟨x, y, _⟩ := h10 t k (by omega) hk
  exact ⟨x, by omega⟩
end
section
variable {post : Int32 → SX → Prop} {σ : Nat → Nat → Nat} {ρ : Nat → Nat → Int32}
theorem xf_36 (F : iv_F σ) (hp : (σ 1 0) ≤ 2) (hph : (σ 1 0) = 1 ∨ ((σ 1 0) = 2 ∧ rk_P σ ((σ 0 0))) ∨ (σ 1 0) = 0) (h : post ((ρ 7 0)) (ft_cv σ ρ)) : ∀ k t, t + k = (σ 0 0) → wX_faults_36 post (k + 1) (nI t) (nI (σ 0 0)) (nI (σ 1 0)) (nI (σ 2 0)) (nI (σ 3 0)) (nI (σ 4 0)) (ρ 5 0) (nI (σ 6 0)) (ρ 7 0) (ρ 8) (ft_nA (σ 9)) (ft_nA (σ 10)) (ft_nA (σ 11)) (ρ 12) (ρ 13) (ft_nA (σ 14)) (ft_nA (σ 15)) (ft_nA (σ 16)) (ft_nA (σ 17)) (ft_nA (σ 18)) (ft_nA (σ 19)) (ft_nA (σ 20)) (ft_nB (σ 21)) (ft_nA (σ 22)) (ft_nA (σ 23)) (ft_nA (σ 24)) (ρ 25) (ft_nA (σ 26)) (ft_nA (σ 27)) (ft_nA (σ 28)) (ft_nA (σ 29)) (ρ 30) (ft_nA (σ 31)) (ρ 32) (ft_nA (σ 33)) := by
  have h8c := F.1.1
  intro k
  induction k with
  | zero =>
    intro t ht
    exact br_t (nI_le (by omega) (by omega)) h
  | succ k ih =>
    intro t ht
    refine br_f (nI_ge (by omega) (by omega)) (pk_le ((σ 1 0)) 0 (fun _ => h) (fun h0 => ?_) rfl rfl (by omega) (by omega))
    refine xf_trans (σ := σ) (ρ := ρ) F (by omega) ?_ (nm_r (nI_1 t) (ih (t + 1) (by omega)))
    rcases hph with e | e | e
    · exact Or.inl e
    · exact Or.inr ⟨e.1, e.2 t (by omega)⟩
    · omega
theorem xw_faults (F : iv_F σ) (hph : ((σ 1 0) = 1 ∧ iv_I 0 iv_N σ ρ ∧ (σ 6 0) < 2147483648) ∨ ((σ 1 0) = 2 ∧ rk_P σ ((σ 0 0))) ∨ (σ 1 0) = 0) (h : post 0 (ft_cv σ (ft_ra ρ 7 (fun _ => 0)))) : wpX_faults post (ft_cv σ ρ) := by
  have h36 : ∃ n36 : Nat, wX_faults_36 post n36 0 (nI (σ 0 0)) (nI (σ 1 0)) (nI (σ 2 0)) (nI (σ 3 0)) (nI (σ 4 0)) ((ft_ra ρ 7 (fun _ => 0)) 5 0) (nI (σ 6 0)) ((ft_ra ρ 7 (fun _ => 0)) 7 0) ((ft_ra ρ 7 (fun _ => 0)) 8) (ft_nA (σ 9)) (ft_nA (σ 10)) (ft_nA (σ 11)) ((ft_ra ρ 7 (fun _ => 0)) 12) ((ft_ra ρ 7 (fun _ => 0)) 13) (ft_nA (σ 14)) (ft_nA (σ 15)) (ft_nA (σ 16)) (ft_nA (σ 17)) (ft_nA (σ 18)) (ft_nA (σ 19)) (ft_nA (σ 20)) (ft_nB (σ 21)) (ft_nA (σ 22)) (ft_nA (σ 23)) (ft_nA (σ 24)) ((ft_ra ρ 7 (fun _ => 0)) 25) (ft_nA (σ 26)) (ft_nA (σ 27)) (ft_nA (σ 28)) (ft_nA (σ 29)) ((ft_ra ρ 7 (fun _ => 0)) 30) (ft_nA (σ 31)) ((ft_ra ρ 7 (fun _ => 0)) 32) (ft_nA (σ 33)) := by
    refine ⟨(σ 0 0) + 1, xf_36 (σ := σ) (ρ := ft_ra ρ 7 (fun _ => 0)) F (by omega) ?_ h ((σ 0 0)) 0 (by omega)⟩
    rcases hph with e | e | e
    · exact Or.inl e.1
    · exact Or.inr (Or.inl e)
    · exact Or.inr (Or.inr e)
  unfold wpX_faults ft_cv
  refine pk_eq ((σ 1 0)) 1 (fun e => ?_) (fun _ => h36) rfl rfl (by omega) (by omega)
  obtain ⟨_, I, hclk⟩ : (σ 1 0) = 1 ∧ iv_I 0 iv_N σ ρ ∧ (σ 6 0) < 2147483648 := by
    rcases hph with e' | e' | e'
    · exact e'
    · omega
    · omega
  obtain ⟨hB, h1, h2, h3, h4, _⟩ := I
  have h15 : ∀ k w, w + k = (σ 2 0) → wX_faults_15 post (k + 1) (nI w) (nI (σ 0 0)) (nI (σ 1 0)) (nI (σ 2 0)) (nI (σ 3 0)) (nI (σ 4 0)) ((ft_ra ρ 7 (fun _ => 0)) 5 0) (nI (σ 6 0)) ((ft_ra ρ 7 (fun _ => 0)) 7 0) ((ft_ra ρ 7 (fun _ => 0)) 8) (ft_nA (σ 9)) (ft_nA (σ 10)) (ft_nA (σ 11)) ((ft_ra ρ 7 (fun _ => 0)) 12) ((ft_ra ρ 7 (fun _ => 0)) 13) (ft_nA (σ 14)) (ft_nA (σ 15)) (ft_nA (σ 16)) (ft_nA (σ 17)) (ft_nA (σ 18)) (ft_nA (σ 19)) (ft_nA (σ 20)) (ft_nB (σ 21)) (ft_nA (σ 22)) (ft_nA (σ 23)) (ft_nA (σ 24)) ((ft_ra ρ 7 (fun _ => 0)) 25) (ft_nA (σ 26)) (ft_nA (σ 27)) (ft_nA (σ 28)) (ft_nA (σ 29)) ((ft_ra ρ 7 (fun _ => 0)) 30) (ft_nA (σ 31)) ((ft_ra ρ 7 (fun _ => 0)) 32) (ft_nA (σ 33)) := by
    have h6 := hB.2.2.1
    intro k
    induction k with
    | zero =>
      intro w hw
      exact br_t (nI_le (by omega) (by omega)) h36
    | succ k ih =>
      intro w hw
      exact br_f (nI_ge (by omega) (by omega)) (xf_worker (σ := σ) (ρ := ft_ra ρ 7 (fun _ => 0)) (by omega) h6 hB.1 hclk h2 h3 h4 (nm_r (nI_1 w) (ih (w + 1) (by omega))))
  exact ⟨(σ 2 0) + 1, h15 ((σ 2 0)) 0 (by omega)⟩
end
end
section
/-! the relation -/
def i_yv (σ : Nat → Nat → Nat) (ρ : Nat → Nat → Int32) (X Y : Int32) (D O Q T R B : Nat → Int32) : SY := (nI ((σ 1 0)), nI ((σ 0 0)), X, Y, (ρ 8), ft_nA ((σ 9)), ft_nA ((σ 10)), ft_nA ((σ 11)), (ρ 12), D, O, Q, T, R, B)
/-- what came out is the same on both sides -/
def i_Out (σ : Nat → Nat → Nat) (ρ : Nat → Nat → Int32) (D O Q T : Nat → Int32) : Prop := ∀ t, t < (σ 0 0) → D t = nI (if (σ 23) t = 0 then 1 else 0) ∧ O t = nI (if (σ 23) t = 0 then (σ 24) t else 0) ∧ T t = nI ((σ 15) t) ∧ ((σ 23) t = 0 → ∀ k, k < (σ 24) t → Q (12 * t + k) = (ρ 25) (12 * t + k))
def i_F (k : Nat) (σ : Nat → Nat → Nat) (ρ : Nat → Nat → Int32) (D O Q T : Nat → Int32) : Prop :=
  iv_B ((σ 0 0)) ((σ 2 0)) ((σ 9)) ((σ 10)) ((σ 11)) ((σ 14)) ((σ 22)) ∧ (σ 1 0) ≤ 2 ∧ ((σ 1 0) = 1 → iv_I 0 iv_N σ ρ ∧ (σ 6 0) ≤ 500 * k) ∧ ((σ 1 0) = 2 → iv_F σ ∧ rk_P σ ((σ 0 0)) ∧ i_Out σ ρ D O Q T)
def i_Rel (k : Nat) (u : SX) (v : SY) : Prop := ∃ (σ : Nat → Nat → Nat) (ρ : Nat → Nat → Int32) (X Y : Int32) (D O Q T R B : Nat → Int32), u = ft_cv σ ρ ∧ v = i_yv σ ρ X Y D O Q T R B ∧ i_F k σ ρ D O Q T
theorem i_mk {k : Nat} {σ : Nat → Nat → Nat} {ρ : Nat → Nat → Int32} {X Y : Int32} {D O Q T R B : Nat → Int32} (h : i_F k σ ρ D O Q T) : i_Rel k (ft_cv σ ρ) (i_yv σ ρ X Y D O Q T R B) := ⟨σ, ρ, X, Y, D, O, Q, T, R, B, rfl, rfl, h⟩
theorem i_Fu {k : Nat} {σ : Nat → Nat → Nat} {ρ : Nat → Nat → Int32} {D O Q T : Nat → Int32} (h : i_F k σ ρ D O Q T) : i_F (k + 4) σ ρ D O Q T := by
  obtain ⟨a, b, c, d⟩ := h
  exact ⟨a, b, fun e => ⟨(c e).1, by have := (c e).2; omega⟩, d⟩
theorem i_up {k : Nat} {u : SX} {v : SY} (h : i_Rel k u v) : i_Rel (k + 4) u v := by
  obtain ⟨σ, ρ, X, Y, D, O, Q, T, R, B, rfl, rfl, h⟩ := h
  exact i_mk (i_Fu h)
/-! the constructors -/
def i_s0 (w : Nat) : Nat → Nat → Nat := ft_sa (ft_sc (fun _ _ => 0) 2 w) 21 (fun _ => 1)
theorem i_init (w : Nat) (h1 : 1 ≤ w) (h6 : w ≤ 6) : i_Rel 1 (0, 0, nI w, 0, 0, 0, 0, 0, (fun _ => 0), (fun _ => 0), (fun _ => 0), (fun _ => 0), (fun _ => 0), (fun _ => 0), (fun _ => 0), (fun _ => 0), (fun _ => 0), (fun _ => 0), (fun _ => 0), (fun _ => 0), (fun _ => 0), (fun _ => 0), (fun _ => 0), (fun _ => 0), (fun _ => 0), (fun _ => 0), (fun _ => 0), (fun _ => 0), (fun _ => 0), (fun _ => 0), (fun _ => 0), (fun _ => 0), (fun _ => 0), (fun _ => 0)) (0, 0, 0, 0, (fun _ => 0), (fun _ => 0), (fun _ => 0), (fun _ => 0), (fun _ => 0), (fun _ => 0), (fun _ => 0), (fun _ => 0), (fun _ => 0), (fun _ => 0), (fun _ => 0)) := by
  have hz : (fun _ => 0 : Nat → Int32) = ft_nA (fun _ => 0) := rfl
  have hb : (fun _ => 0 : Nat → Int32) = ft_nB (fun _ => 1) := by
    funext j
    show (0 : Int32) = nI 1 - 1
    decide
  refine ⟨i_s0 w, fun _ _ => 0, 0, 0, (fun _ => 0), (fun _ => 0), (fun _ => 0), (fun _ => 0), (fun _ => 0), (fun _ => 0), ?_, rfl, ?_⟩
  · show _ = (nI 0, nI 0, nI w, nI 0, nI 0, 0, nI 0, 0, (fun _ => 0), ft_nA (fun _ => 0), ft_nA (fun _ => 0), ft_nA (fun _ => 0), (fun _ => 0), (fun _ => 0), ft_nA (fun _ => 0), ft_nA (fun _ => 0), ft_nA (fun _ => 0), ft_nA (fun _ => 0), ft_nA (fun _ => 0), ft_nA (fun _ => 0), ft_nA (fun _ => 0), ft_nB (fun _ => 1), ft_nA (fun _ => 0), ft_nA (fun _ => 0), ft_nA (fun _ => 0), (fun _ => 0), ft_nA (fun _ => 0), ft_nA (fun _ => 0), ft_nA (fun _ => 0), ft_nA (fun _ => 0), (fun _ => 0), ft_nA (fun _ => 0), (fun _ => 0), ft_nA (fun _ => 0))
    rw [← hb, ← hz]
    rfl
  · exact ⟨⟨by show 0 ≤ 8; omega, h1, h6, fun j hj => by show 0 ≤ 12; omega, fun j hj => ⟨by show 0 ≤ 11; omega, by show 0 ≤ 15; omega⟩, fun j hj => by show 0 < 2147483648; omega, fun j hj => by show 0 < 2147483648; omega⟩, by show 0 ≤ 2; omega, fun e => absurd (show (0 : Nat) = 1 from e) (by decide), fun e => absurd (show (0 : Nat) = 2 from e) (by decide)⟩
theorem i_vc0 (k0 : Int32) : wpX_init (fun u => wpY_init (fun v => i_Rel 1 u v) k0) k0 := by
  unfold wpX_init wpY_init
  refine br_c (fun h1 => br_c (fun h6 => ?_) (fun _ => i_init 6 (by omega) (by omega))) (fun _ => i_init 1 (by omega) (by omega))
  have h1' : (1 : Int32).toInt ≤ k0.toInt := Int32.le_iff_toInt_le.mp h1
  have h6' : k0.toInt ≤ (6 : Int32).toInt := Int32.le_iff_toInt_le.mp h6
  rw [show (1 : Int32).toInt = 1 by decide] at h1'
  rw [show (6 : Int32).toInt = 6 by decide] at h6'
  have h0 : ¬ k0 < 0 := by
    rw [Int32.lt_iff_toInt_lt, show (0 : Int32).toInt = 0 by decide]
    omega
  obtain ⟨w, hw, rfl⟩ := nI_of h0
  rw [nI_toInt hw] at h1' h6'
  exact i_init w (by omega) (by omega)
/-! refusals -/
theorem xr_ref {post : Int32 → Prop} {σ : Nat → Nat → Nat} {ρ : Nat → Nat → Int32} (hp : (σ 1 0) ≤ 2) (h2 : (σ 1 0) = 2 → post (-3)) (h1 : (σ 1 0) = 1 → post (-4)) (h0 : (σ 1 0) = 0 → post 0) : wpX_refusal post (ft_cv σ ρ) := by
  unfold wpX_refusal ft_cv
  exact pk_eq ((σ 1 0)) 2 h2 (fun e2 => pk_eq ((σ 1 0)) 1 h1 (fun e1 => h0 (by omega)))
theorem yr_ref {post : Int32 → Prop} {σ : Nat → Nat → Nat} {ρ : Nat → Nat → Int32} {X Y : Int32} {D O Q T R B : Nat → Int32} (hp : (σ 1 0) ≤ 2) (h2 : (σ 1 0) = 2 → post (-3)) (h1 : (σ 1 0) = 1 → post (-4)) (h0 : (σ 1 0) = 0 → post 0) : wpY_refusal post (i_yv σ ρ X Y D O Q T R B) := by
  unfold wpY_refusal i_yv
  exact pk_eq ((σ 1 0)) 2 h2 (fun e2 => pk_eq ((σ 1 0)) 1 h1 (fun e1 => h0 (by omega)))
theorem i_ne2 {p : Nat} (h : p ≤ 2) (h2 : p ≠ 2) : ¬ nI p = 2 := fun e => h2 ((nI_eq (b := 2) (by omega) (by omega)).mp e)
end
section
/-! begin, add, undo, poke, phase, next, cell, digest, transactions -/
theorem i_F0 {k : Nat} {σ : Nat → Nat → Nat} {ρ : Nat → Nat → Int32} {D O Q T : Nat → Int32} (h : (σ 1 0) = 0) (hB : iv_B ((σ 0 0)) ((σ 2 0)) ((σ 9)) ((σ 10)) ((σ 11)) ((σ 14)) ((σ 22))) : i_F k σ ρ D O Q T := ⟨hB, by omega, fun e => absurd e (by omega), fun e => absurd e (by omega)⟩
theorem i_lnS {ln : Nat → Nat} {i v : Nat} (h : ∀ j, j < 8 → ln j ≤ 12) (hv : v ≤ 12) : ∀ j, j < 8 → ft_un ln i v j ≤ 12 := by
  intro j hj
  have := h j hj
  rw [ft_unE]
  split <;> omega
theorem i_vc_begin {k : Nat} {u : SX} {v : SY} (I : i_Rel k u v) (hk : k + 4 ≤ 2049) : wpX_begin (fun r u' => wpY_begin (fun r' v' => r' = r ∧ i_Rel (k + 4) u' v') v) u := by
  obtain ⟨σ, ρ, X, Y, D, O, Q, T, R, B, rfl, rfl, F⟩ := I
  have F4 := i_Fu F
  obtain ⟨hB, hp, f1, f2⟩ := F
  have h8 := hB.1
  unfold wpX_begin ft_cv
  refine pk_eq ((σ 1 0)) 0 (fun e0 => ?_) (fun ne => ?_) rfl rfl (by omega) (by omega)
  · have n1 : ¬ (σ 1 0) = 1 := by omega
    have n2 : ¬ (σ 1 0) = 2 := by omega
    refine pk_lt ((σ 0 0)) 8 (fun hlt => And.intro (ft_in hlt) (nm_r (ft_wr (v := 0) (by omega)) (nm_r (nI_1 _) ?_))) (fun hge => ?_)
    · unfold wpY_begin i_yv
      refine yr_ref (σ := σ) (ρ := ρ) hp (fun e => absurd e n2) (fun e => absurd e n1) (fun _ => br_t (by decide) ?_)
      refine pk_eq ((σ 0 0)) 8 (fun e => absurd e (by omega)) (fun _ => And.intro (ft_in hlt) (nm_r (ft_wr (v := 0) (by omega)) (nm_r (nI_1 _) ⟨rfl, ?_⟩)))
      exact i_mk (σ := ft_sc (ft_sa σ 9 (ft_un ((σ 9)) ((σ 0 0)) 0)) 0 ((σ 0 0) + 1)) (ρ := ρ) (i_F0 e0 ⟨hlt, hB.2.1, hB.2.2.1, i_lnS hB.2.2.2.1 (by omega), hB.2.2.2.2⟩)
    · unfold wpY_begin i_yv
      refine yr_ref (σ := σ) (ρ := ρ) hp (fun e => absurd e n2) (fun e => absurd e n1) (fun _ => br_t (by decide) ?_)
      exact pk_eq ((σ 0 0)) 8 (fun e => ⟨rfl, i_mk F4⟩) (fun e => absurd e (by omega))
  · refine xr_ref (σ := σ) (ρ := ρ) hp (fun e => ?_) (fun e => ?_) (fun e => absurd e ne)
    · unfold wpY_begin i_yv
      refine yr_ref (σ := σ) (ρ := ρ) hp (fun _ => br_f (by decide) ?_) (fun e' => absurd e' (by omega)) (fun e' => absurd e' ne)
      exact yr_ref (σ := σ) (ρ := ρ) hp (fun _ => ⟨rfl, i_mk F4⟩) (fun e' => absurd e' (by omega)) (fun e' => absurd e' ne)
    · unfold wpY_begin i_yv
      refine yr_ref (σ := σ) (ρ := ρ) hp (fun e' => absurd e' (by omega)) (fun _ => br_f (by decide) ?_) (fun e' => absurd e' ne)
      exact yr_ref (σ := σ) (ρ := ρ) hp (fun e' => absurd e' (by omega)) (fun _ => ⟨rfl, i_mk F4⟩) (fun e' => absurd e' ne)
theorem i_vc_add {k : Nat} {u : SX} {v : SY} (I : i_Rel k u v) (hk : k + 4 ≤ 2049) (v1 : Int32) (v2 : Int32) (v3 : Int32) : wpX_add (fun r u' => wpY_add (fun r' v' => r' = r ∧ i_Rel (k + 4) u' v') v v1 v2 v3) u v1 v2 v3 := by
  obtain ⟨σ, ρ, X, Y, D, O, Q, T, R, B, rfl, rfl, F⟩ := I
  have F4 := i_Fu F
  obtain ⟨hB, hp, f1, f2⟩ := F
  have h8 := hB.1
  unfold wpX_add ft_cv
  refine pk_eq ((σ 1 0)) 0 (fun e0 => ?_) (fun ne => ?_) rfl rfl (by omega) (by omega)
  · have n1 : ¬ (σ 1 0) = 1 := by omega
    have n2 : ¬ (σ 1 0) = 2 := by omega
    by_cases a1 : v1 < 0
    · refine br_t a1 ?_
      unfold wpY_add i_yv
      exact yr_ref (σ := σ) (ρ := ρ) hp (fun e => absurd e n2) (fun e => absurd e n1) (fun _ => br_t (by decide) (br_t a1 ⟨rfl, i_mk F4⟩))
    refine br_f a1 ?_
    by_cases a2 : 11 < v1
    · refine br_t a2 ?_
      unfold wpY_add i_yv
      exact yr_ref (σ := σ) (ρ := ρ) hp (fun e => absurd e n2) (fun e => absurd e n1) (fun _ => br_t (by decide) (br_f a1 (br_t a2 ⟨rfl, i_mk F4⟩)))
    refine br_f a2 ?_
    by_cases a3 : v2 < 0
    · refine br_t a3 ?_
      unfold wpY_add i_yv
      exact yr_ref (σ := σ) (ρ := ρ) hp (fun e => absurd e n2) (fun e => absurd e n1) (fun _ => br_t (by decide) (br_f a1 (br_f a2 (br_t a3 ⟨rfl, i_mk F4⟩))))
    refine br_f a3 ?_
    by_cases a4 : v2 ≤ 15
    · refine br_t a4 ?_
      obtain ⟨o, ho, rfl⟩ := nI_of2 (M := 11) (n := 11) (by decide) a1 (Int32.not_lt.mp a2)
      obtain ⟨q, hq, rfl⟩ := nI_of2 (M := 15) (n := 15) (by decide) a3 a4
      by_cases hc0 : (σ 0 0) = 0
      · have e : nI ((σ 0 0)) = 0 := by rw [hc0]; rfl
        refine br_t e ?_
        unfold wpY_add i_yv
        exact yr_ref (σ := σ) (ρ := ρ) hp (fun e => absurd e n2) (fun e => absurd e n1) (fun _ => br_t (by decide) (br_f a1 (br_f a2 (br_f a3 (br_t a4 (br_t e ⟨rfl, i_mk F4⟩))))))
      · have e : ¬ nI ((σ 0 0)) = 0 := nI_ne0 (by omega) (by omega)
        obtain ⟨c, hc⟩ : ∃ c, (σ 0 0) = c + 1 := ⟨(σ 0 0) - 1, by omega⟩
        have ec : nI ((σ 0 0)) - 1 = nI c := by rw [hc, nI_pred]
        have hl := hB.2.2.2.1 c (by omega)
        have il : c < 2147483648 := by omega
        refine br_f e (nm_r ec (And.intro (ft_in (by omega)) (pk_lt ((σ 9) c) 12 (fun hlt => And.intro (ft_in (by omega)) (nm_r (ft_l12A il) (And.intro (ft_in (by omega)) (nm_r (ft_wr (by omega)) (And.intro (ft_in (by omega)) (nm_r (ft_wr (by omega)) (And.intro (ft_in (by omega)) (nm_r (ft_wR (by omega)) (And.intro (ft_in (by omega)) (And.intro (ft_in (by omega)) (nm_r (ft_wr (v := (σ 9) c + 1) il (ft_rd1 il)) (And.intro (ft_in (by omega)) ?_)))))))))))) (fun hge => ?_) (ft_rd il) rfl (by omega) (by omega))))
        · unfold wpY_add i_yv
          refine yr_ref (σ := σ) (ρ := ρ) hp (fun e => absurd e n2) (fun e => absurd e n1) (fun _ => br_t (by decide) (br_f a1 (br_f a2 (br_f a3 (br_t a4 (br_f e ?_))))))
          refine nm_r ec (And.intro (ft_in (by omega)) (pk_eq ((σ 9) c) 12 (fun e => absurd e (by omega)) (fun _ => And.intro (ft_in (by omega)) (nm_r (ft_l12A il) (And.intro (ft_in (by omega)) (nm_r (ft_wr (by omega)) (And.intro (ft_in (by omega)) (nm_r (ft_wr (by omega)) (And.intro (ft_in (by omega)) (nm_r (ft_wR (by omega)) (And.intro (ft_in (by omega)) (And.intro (ft_in (by omega)) (nm_r (ft_wr (v := (σ 9) c + 1) il (ft_rd1 il)) (And.intro (ft_in (by omega)) ⟨rfl, ?_⟩)))))))))))) (ft_rd il) rfl (by omega) (by omega)))
          refine i_mk (σ := ft_sa (ft_sa (ft_sa σ 10 (ft_un ((σ 10)) (12 * c + (σ 9) c) o)) 11 (ft_un ((σ 11)) (12 * c + (σ 9) c) q)) 9 (ft_un ((σ 9)) c ((σ 9) c + 1))) (ρ := ft_ra ρ 12 (upd ((ρ 12)) (12 * c + (σ 9) c) v3)) (i_F0 e0 ⟨hB.1, hB.2.1, hB.2.2.1, i_lnS hB.2.2.2.1 (by omega), fun j hj => ?_, hB.2.2.2.2.2⟩)
          have := hB.2.2.2.2.1 j hj
          show ft_un ((σ 10)) (12 * c + (σ 9) c) o j ≤ 11 ∧ ft_un ((σ 11)) (12 * c + (σ 9) c) q j ≤ 15
          rw [ft_unE, ft_unE]
          split <;> omega
        · unfold wpY_add i_yv
          refine yr_ref (σ := σ) (ρ := ρ) hp (fun e => absurd e n2) (fun e => absurd e n1) (fun _ => br_t (by decide) (br_f a1 (br_f a2 (br_f a3 (br_t a4 (br_f e ?_))))))
          exact nm_r ec (And.intro (ft_in (by omega)) (pk_eq ((σ 9) c) 12 (fun e => ⟨rfl, i_mk F4⟩) (fun e => absurd e (by omega)) (ft_rd il) rfl (by omega) (by omega)))
    refine br_f a4 ?_
    unfold wpY_add i_yv
    exact yr_ref (σ := σ) (ρ := ρ) hp (fun e => absurd e n2) (fun e => absurd e n1) (fun _ => br_t (by decide) (br_f a1 (br_f a2 (br_f a3 (br_f a4 ⟨rfl, i_mk F4⟩)))))
  · refine xr_ref (σ := σ) (ρ := ρ) hp (fun e => ?_) (fun e => ?_) (fun e => absurd e ne)
    · unfold wpY_add i_yv
      refine yr_ref (σ := σ) (ρ := ρ) hp (fun _ => br_f (by decide) ?_) (fun e' => absurd e' (by omega)) (fun e' => absurd e' ne)
      exact yr_ref (σ := σ) (ρ := ρ) hp (fun _ => ⟨rfl, i_mk F4⟩) (fun e' => absurd e' (by omega)) (fun e' => absurd e' ne)
    · unfold wpY_add i_yv
      refine yr_ref (σ := σ) (ρ := ρ) hp (fun e' => absurd e' (by omega)) (fun _ => br_f (by decide) ?_) (fun e' => absurd e' ne)
      exact yr_ref (σ := σ) (ρ := ρ) hp (fun e' => absurd e' (by omega)) (fun _ => ⟨rfl, i_mk F4⟩) (fun e' => absurd e' ne)
theorem i_vc_undo {k : Nat} {u : SX} {v : SY} (I : i_Rel k u v) (hk : k + 4 ≤ 2049) : wpX_undo (fun r u' => wpY_undo (fun r' v' => r' = r ∧ i_Rel (k + 4) u' v') v) u := by
  obtain ⟨σ, ρ, X, Y, D, O, Q, T, R, B, rfl, rfl, F⟩ := I
  have F4 := i_Fu F
  obtain ⟨hB, hp, f1, f2⟩ := F
  have h8 := hB.1
  unfold wpX_undo ft_cv
  refine pk_eq ((σ 1 0)) 0 (fun e0 => ?_) (fun ne => ?_) rfl rfl (by omega) (by omega)
  · have n1 : ¬ (σ 1 0) = 1 := by omega
    have n2 : ¬ (σ 1 0) = 2 := by omega
    by_cases hc0 : (σ 0 0) = 0
    · have e : nI ((σ 0 0)) = 0 := by rw [hc0]; rfl
      refine br_t e ?_
      unfold wpY_undo i_yv
      exact yr_ref (σ := σ) (ρ := ρ) hp (fun e => absurd e n2) (fun e => absurd e n1) (fun _ => br_t (by decide) (br_t e ⟨rfl, i_mk F4⟩))
    · have e : ¬ nI ((σ 0 0)) = 0 := nI_ne0 (by omega) (by omega)
      obtain ⟨c, hc⟩ : ∃ c, (σ 0 0) = c + 1 := ⟨(σ 0 0) - 1, by omega⟩
      have ec : nI ((σ 0 0)) - 1 = nI c := by rw [hc, nI_pred]
      have hl := hB.2.2.2.1 c (by omega)
      have il : c < 2147483648 := by omega
      have hi : vp_in (nI ((σ 0 0)) - 1) 8 := ft_inE ec (by omega)
      refine br_f e (And.intro hi (pk_le ((σ 9) c) 0 (fun h0 => nm_r ec ?_) (fun h0 => And.intro hi (And.intro hi (nm_r (ft_wrI (v := (σ 9) c - 1) ec il ?_) ?_))) (ft_rdI ec il) rfl (by omega) (by omega)))
      · -- the transaction goes
        have hB' : iv_B c ((σ 2 0)) ((σ 9)) ((σ 10)) ((σ 11)) ((σ 14)) ((σ 22)) := ⟨by omega, hB.2⟩
        have M4 : i_Rel (k + 4) (ft_cv (ft_sc σ 0 c) ρ) (i_yv (ft_sc σ 0 c) ρ X Y D O Q T R B) := i_mk (i_F0 e0 hB')
        unfold wX_undo_64
        by_cases hc1 : c = 0
        · have e1 : nI c = 0 := by rw [hc1]; rfl
          refine br_t e1 ?_
          unfold wpY_undo i_yv
          refine yr_ref (σ := σ) (ρ := ρ) hp (fun e => absurd e n2) (fun e => absurd e n1) (fun _ => br_t (by decide) (br_f e (And.intro hi (pk_le ((σ 9) c) 0 (fun _ => nm_r ec ?_) (fun h => absurd h (by omega)) (ft_rdI ec il) rfl (by omega) (by omega)))))
          unfold wY_undo_64
          exact br_t e1 ⟨rfl, M4⟩
        · have e1 : ¬ nI c = 0 := nI_ne0 (by omega) (by omega)
          have hi1 : vp_in (nI c - 1) 8 := by
            obtain ⟨d, hd⟩ : ∃ d, c = d + 1 := ⟨c - 1, by omega⟩
            exact ft_inE (i := d) (by rw [hd, nI_pred]) (by omega)
          refine br_f e1 (And.intro hi1 ?_)
          unfold wpY_undo i_yv
          refine yr_ref (σ := σ) (ρ := ρ) hp (fun e => absurd e n2) (fun e => absurd e n1) (fun _ => br_t (by decide) (br_f e (And.intro hi (pk_le ((σ 9) c) 0 (fun _ => nm_r ec ?_) (fun h => absurd h (by omega)) (ft_rdI ec il) rfl (by omega) (by omega)))))
          unfold wY_undo_64
          exact br_f e1 (And.intro hi1 ⟨rfl, M4⟩)
      · rw [ft_rdI ec il]
        exact pk_sub (b := 1) (by omega)
      · have M4 : i_Rel (k + 4) (ft_cv (ft_sa σ 9 (ft_un ((σ 9)) c ((σ 9) c - 1))) ρ) (i_yv (ft_sa σ 9 (ft_un ((σ 9)) c ((σ 9) c - 1))) ρ X Y D O Q T R B) := i_mk (i_F0 e0 ⟨hB.1, hB.2.1, hB.2.2.1, i_lnS hB.2.2.2.1 (by omega), hB.2.2.2.2⟩)
        unfold wX_undo_64
        refine br_f e (And.intro hi ?_)
        unfold wpY_undo i_yv
        refine yr_ref (σ := σ) (ρ := ρ) hp (fun e => absurd e n2) (fun e => absurd e n1) (fun _ => br_t (by decide) (br_f e (And.intro hi (pk_le ((σ 9) c) 0 (fun h => absurd h (by omega)) (fun _ => And.intro hi (And.intro hi (nm_r (ft_wrI (v := (σ 9) c - 1) ec il ?_) ?_))) (ft_rdI ec il) rfl (by omega) (by omega)))))
        · rw [ft_rdI ec il]
          exact pk_sub (b := 1) (by omega)
        · unfold wY_undo_64
          exact br_f e (And.intro hi ⟨rfl, M4⟩)
  · refine xr_ref (σ := σ) (ρ := ρ) hp (fun e => ?_) (fun e => ?_) (fun e => absurd e ne)
    · unfold wpY_undo i_yv
      refine yr_ref (σ := σ) (ρ := ρ) hp (fun _ => br_f (by decide) ?_) (fun e' => absurd e' (by omega)) (fun e' => absurd e' ne)
      exact yr_ref (σ := σ) (ρ := ρ) hp (fun _ => ⟨rfl, i_mk F4⟩) (fun e' => absurd e' (by omega)) (fun e' => absurd e' ne)
    · unfold wpY_undo i_yv
      refine yr_ref (σ := σ) (ρ := ρ) hp (fun e' => absurd e' (by omega)) (fun _ => br_f (by decide) ?_) (fun e' => absurd e' ne)
      exact yr_ref (σ := σ) (ρ := ρ) hp (fun e' => absurd e' (by omega)) (fun _ => ⟨rfl, i_mk F4⟩) (fun e' => absurd e' ne)
end
section
/-! poke, phase, next, cell, digest, transactions, result, outs, out, stored -/
theorem i_15 {x : Int32} (h : (16 : Int32) ≤ x) : ¬ x ≤ 15 := by
  intro h2
  have a := Int32.le_iff_toInt_le.mp h
  have b := Int32.le_iff_toInt_le.mp h2
  rw [show (16 : Int32).toInt = 16 by decide] at a
  rw [show (15 : Int32).toInt = 15 by decide] at b
  omega
theorem i_16 {x : Int32} (h0 : ¬ x < 0) (h : ¬ (16 : Int32) ≤ x) : ∃ c, c < 16 ∧ x = nI c ∧ x ≤ 15 := by
  rcases pk_ix x (n := 16) (by omega) with a | a | ⟨j, hj, rfl⟩
  · exact absurd a h0
  · exact absurd a h
  · exact ⟨j, hj, rfl, nI_le (b := 15) (by omega) (by omega)⟩
theorem i_vc_poke {k : Nat} {u : SX} {v : SY} (I : i_Rel k u v) (hk : k + 4 ≤ 2049) (v1 : Int32) (v2 : Int32) : wpX_poke (fun r u' => wpY_poke (fun r' v' => r' = r ∧ i_Rel (k + 4) u' v') v v1 v2) u v1 v2 := by
  obtain ⟨σ, ρ, X, Y, D, O, Q, T, R, B, rfl, rfl, F⟩ := I
  have F4 := i_Fu F
  have hp := F.2.1
  unfold wpX_poke ft_cv
  refine pk_eq ((σ 1 0)) 1 (fun e => ?_) (fun ne => ?_) rfl rfl (by omega) (by omega)
  · unfold wpY_poke i_yv
    exact pk_eq ((σ 1 0)) 1 (fun _ => ⟨rfl, i_mk F4⟩) (fun e' => absurd e e') rfl rfl (by omega) (by omega)
  · unfold wpX_isCell
    have YY : ∀ {post : Int32 → SY → Prop}, (((v1 < 0 → post (-1) (i_yv σ ρ X Y D O Q T R B)) ∧ (¬ v1 < 0 → (((v1 ≤ 15 → (vp_in v1 16 ∧ ∀ a, a = upd ((ρ 8)) v1.toNatClampNeg v2 → post 0 (i_yv σ (ft_ra ρ 8 a) X Y D O Q T R B))) ∧ (¬ v1 ≤ 15 → post (-1) (i_yv σ ρ X Y D O Q T R B))))))) → wpY_poke post (i_yv σ ρ X Y D O Q T R B) v1 v2 := by
      intro post h
      unfold wpY_poke i_yv
      exact pk_eq ((σ 1 0)) 1 (fun e' => absurd e' ne) (fun _ => h) rfl rfl (by omega) (by omega)
    by_cases a1 : v1 < 0
    · exact br_t a1 (br_t rfl (YY (br_t a1 ⟨rfl, i_mk F4⟩)))
    · by_cases a2 : (16 : Int32) ≤ v1
      · exact br_f a1 (br_t a2 (br_t rfl (YY (br_f a1 (br_f (i_15 a2) ⟨rfl, i_mk F4⟩)))))
      · obtain ⟨c, hc, rfl, a3⟩ := i_16 a1 a2
        refine br_f a1 (br_f a2 (br_f (by decide) (And.intro (ft_in hc) (nm_r (ft_wR (by omega)) (YY (br_f a1 (br_t a3 (And.intro (ft_in hc) (nm_r (ft_wR (by omega)) ⟨rfl, ?_⟩)))))))))
        refine i_mk (σ := σ) (ρ := ft_ra ρ 8 (upd ((ρ 8)) c v2)) ?_
        obtain ⟨hB, hp', f1, f2⟩ := F4
        exact ⟨hB, hp', fun e => absurd e ne, f2⟩
theorem i_vc_phase {k : Nat} {u : SX} {v : SY} (I : i_Rel k u v) (hk : k + 4 ≤ 2049) : wpX_phase (fun r => wpY_phase (fun r' => r' = r ∧ i_Rel (k + 4) u v) v) u := by
  have I4 := i_up I
  obtain ⟨σ, ρ, X, Y, D, O, Q, T, R, B, rfl, rfl, F⟩ := I
  unfold wpX_phase wpY_phase
  exact ⟨rfl, I4⟩
theorem i_vc_next {k : Nat} {u : SX} {v : SY} (I : i_Rel k u v) (hk : k + 4 ≤ 2049) : wpX_next (fun r u' => wpY_next (fun r' v' => r' = r ∧ i_Rel (k + 4) u' v') v) u := by
  obtain ⟨σ, ρ, X, Y, D, O, Q, T, R, B, rfl, rfl, F⟩ := I
  have F4 := i_Fu F
  have hp := F.2.1
  have hB := F.1
  unfold wpX_next wpY_next ft_cv i_yv
  refine pk_eq ((σ 1 0)) 1 (fun e => ?_) (fun ne => ?_) rfl rfl (by omega) (by omega)
  · exact pk_eq ((σ 1 0)) 1 (fun _ => ⟨rfl, i_mk F4⟩) (fun e' => absurd e e') rfl rfl (by omega) (by omega)
  · refine pk_eq ((σ 1 0)) 1 (fun e' => absurd e' ne) (fun _ => ⟨rfl, ?_⟩) rfl rfl (by omega) (by omega)
    exact i_mk (σ := ft_sc (ft_sc σ 0 0) 1 0) (ρ := ρ) (i_F0 rfl ⟨Nat.zero_le _, hB.2⟩)
theorem i_vc_cell {k : Nat} {u : SX} {v : SY} (I : i_Rel k u v) (hk : k + 4 ≤ 2049) (v1 : Int32) : wpX_cell (fun r => wpY_cell (fun r' => r' = r ∧ i_Rel (k + 4) u v) v v1) u v1 := by
  have I4 := i_up I
  obtain ⟨σ, ρ, X, Y, D, O, Q, T, R, B, rfl, rfl, F⟩ := I
  have g : ∀ r, r = r ∧ i_Rel (k + 4) (ft_cv σ ρ) (i_yv σ ρ X Y D O Q T R B) := fun r : Int32 => ⟨rfl, I4⟩
  unfold wpX_cell wpY_cell wpX_isCell
  by_cases a1 : v1 < 0
  · exact br_t a1 (br_t rfl (br_t a1 (g _)))
  · by_cases a2 : (16 : Int32) ≤ v1
    · exact br_f a1 (br_t a2 (br_t rfl (br_f a1 (br_f (i_15 a2) (g _)))))
    · obtain ⟨c, hc, rfl, a3⟩ := i_16 a1 a2
      exact br_f a1 (br_f a2 (br_f (by decide) (And.intro (ft_in hc) (br_f a1 (br_t a3 (And.intro (ft_in hc) (g _)))))))
def i_dg (C : Nat → Int32) : Nat → Int32
  | 0 => 0
  | i + 1 => i_dg C i + (nI i + 1) * C i
theorem xd_4 {post : Int32 → Prop} {σ : Nat → Nat → Nat} {ρ : Nat → Nat → Int32} (h : post (i_dg ((ρ 8)) 16)) : ∀ k i, i + k = 16 → wX_digest_4 post (nI (σ 0 0)) (nI (σ 1 0)) (nI (σ 2 0)) (nI (σ 3 0)) (nI (σ 4 0)) (ρ 5 0) (nI (σ 6 0)) (ρ 7 0) (ρ 8) (ft_nA (σ 9)) (ft_nA (σ 10)) (ft_nA (σ 11)) (ρ 12) (ρ 13) (ft_nA (σ 14)) (ft_nA (σ 15)) (ft_nA (σ 16)) (ft_nA (σ 17)) (ft_nA (σ 18)) (ft_nA (σ 19)) (ft_nA (σ 20)) (ft_nB (σ 21)) (ft_nA (σ 22)) (ft_nA (σ 23)) (ft_nA (σ 24)) (ρ 25) (ft_nA (σ 26)) (ft_nA (σ 27)) (ft_nA (σ 28)) (ft_nA (σ 29)) (ρ 30) (ft_nA (σ 31)) (ρ 32) (ft_nA (σ 33)) (k + 1) (i_dg ((ρ 8)) i) (nI i) := by
  intro k
  induction k with
  | zero =>
    intro i hi
    have e : i = 16 := by omega
    subst e
    exact br_t (nI_le (a := 16) (by omega) (by omega)) h
  | succ k ih =>
    intro i hi
    exact br_f (nI_ge (b := 16) (by omega) (by decide)) (And.intro (ft_in (by omega)) (nm_r (e' := i_dg ((ρ 8)) (i + 1)) (by rw [ft_rR (a := (ρ 8)) (i := i) (by omega)]; rfl) (nm_r (nI_1 i) (ih (i + 1) (by omega)))))
theorem yd_4 {post : Int32 → Prop} {P N X Y : Int32} {C S U L M D O Q T R B : Nat → Int32} (h : post (i_dg C 16)) : ∀ k i, i + k = 16 → wY_digest_4 post P N X Y C S U L M D O Q T R B (k + 1) (i_dg C i) (nI i) := by
  intro k
  induction k with
  | zero =>
    intro i hi
    have e : i = 16 := by omega
    subst e
    exact br_t (nI_le (a := 16) (by omega) (by omega)) h
  | succ k ih =>
    intro i hi
    exact br_f (nI_ge (b := 16) (by omega) (by decide)) (And.intro (ft_in (by omega)) (nm_r (e' := i_dg C (i + 1)) (by rw [ft_rR (a := C) (i := i) (by omega)]; rfl) (nm_r (nI_1 i) (ih (i + 1) (by omega)))))
theorem i_vc_digest {k : Nat} {u : SX} {v : SY} (I : i_Rel k u v) (hk : k + 4 ≤ 2049) : wpX_digest (fun r => wpY_digest (fun r' => r' = r ∧ i_Rel (k + 4) u v) v) u := by
  have I4 := i_up I
  obtain ⟨σ, ρ, X, Y, D, O, Q, T, R, B, rfl, rfl, F⟩ := I
  unfold wpX_digest wpY_digest
  exact ⟨17, xd_4 (σ := σ) (ρ := ρ) ⟨17, yd_4 ⟨rfl, I4⟩ 16 0 rfl⟩ 16 0 rfl⟩
theorem i_vc_transactions {k : Nat} {u : SX} {v : SY} (I : i_Rel k u v) (hk : k + 4 ≤ 2049) : wpX_transactions (fun r => wpY_transactions (fun r' => r' = r ∧ i_Rel (k + 4) u v) v) u := by
  have I4 := i_up I
  obtain ⟨σ, ρ, X, Y, D, O, Q, T, R, B, rfl, rfl, F⟩ := I
  unfold wpX_transactions wpY_transactions
  exact ⟨rfl, I4⟩
/-! what came out -/
theorem xs_sec {post : Int32 → Prop} {σ : Nat → Nat → Nat} {ρ : Nat → Nat → Int32} {v1 : Int32} (h8 : (σ 0 0) ≤ 8) (hp : (σ 1 0) ≤ 2) (hb : v1 < 0 ∨ nI ((σ 0 0)) ≤ v1 → post (-1)) (hn : (σ 1 0) ≠ 2 → (∃ t, t < (σ 0 0) ∧ v1 = nI t) → post (-5)) (hg : (σ 1 0) = 2 → (∃ t, t < (σ 0 0) ∧ v1 = nI t) → post 0) : wpX_secret post (ft_cv σ ρ) v1 := by
  unfold wpX_secret ft_cv
  rcases pk_ix v1 (n := (σ 0 0)) (by omega) with a | a | ⟨t, ht, rfl⟩
  · exact br_t a (hb (Or.inl a))
  · have a0 : ¬ v1 < 0 := by
      intro q
      have a' := Int32.le_iff_toInt_le.mp a
      have q' := Int32.lt_iff_toInt_lt.mp q
      rw [nI_toInt (by omega)] at a'
      rw [show (0 : Int32).toInt = 0 by decide] at q'
      omega
    exact br_f a0 (br_f (fun q => absurd a (Int32.not_le.mpr q)) (hb (Or.inr a)))
  · exact br_f (nI_pos (by omega)) (br_t (nI_lt ht (by omega)) (pk_eq ((σ 1 0)) 2 (fun e => hg e ⟨t, ht, rfl⟩) (fun e => hn e ⟨t, ht, rfl⟩) rfl rfl (by omega) (by omega)))
theorem ys_hid {post : Int32 → Prop} {σ : Nat → Nat → Nat} {ρ : Nat → Nat → Int32} {X Y : Int32} {D O Q T R B : Nat → Int32} {v1 : Int32} (h8 : (σ 0 0) ≤ 8) (hp : (σ 1 0) ≤ 2) (hb : v1 < 0 ∨ nI ((σ 0 0)) ≤ v1 → post (-1)) (hn : (σ 1 0) ≠ 2 → (∃ t, t < (σ 0 0) ∧ v1 = nI t) → post (-5)) (hg : (σ 1 0) = 2 → (∃ t, t < (σ 0 0) ∧ v1 = nI t) → post 0) : wpY_hidden post (i_yv σ ρ X Y D O Q T R B) v1 := xs_sec (σ := σ) (ρ := ρ) h8 hp hb hn hg
theorem i_no {σ : Nat → Nat → Nat} {v1 : Int32} (h8 : (σ 0 0) ≤ 8) (a : v1 < 0 ∨ nI ((σ 0 0)) ≤ v1) (b : ∃ t, t < (σ 0 0) ∧ v1 = nI t) : False := by
  obtain ⟨t, ht, rfl⟩ := b
  rcases a with a | a
  · exact nI_pos (by omega) a
  · exact nI_ge ht (by omega) a
theorem i_vc_result {k : Nat} {u : SX} {v : SY} (I : i_Rel k u v) (hk : k + 4 ≤ 2049) (v1 : Int32) : wpX_result (fun r => wpY_result (fun r' => r' = r ∧ i_Rel (k + 4) u v) v v1) u v1 := by
  have I4 := i_up I
  obtain ⟨σ, ρ, X, Y, D, O, Q, T, R, B, rfl, rfl, F⟩ := I
  obtain ⟨hB, hp, f1, f2⟩ := F
  have h8 := hB.1
  have g : ∀ r : Int32, r = r ∧ i_Rel (k + 4) (ft_cv σ ρ) (i_yv σ ρ X Y D O Q T R B) := fun r : Int32 => ⟨rfl, I4⟩
  unfold wpX_result wpY_result
  refine xs_sec (σ := σ) (ρ := ρ) h8 hp (fun a => br_f (by decide) ?_) (fun a b => br_f (by decide) ?_) (fun a b => br_t (by decide) ?_)
  · exact ys_hid (σ := σ) (ρ := ρ) h8 hp (fun _ => br_f (by decide) (ys_hid (σ := σ) (ρ := ρ) h8 hp (fun _ => g _) (fun _ b => (i_no h8 a b).elim) (fun _ b => (i_no h8 a b).elim))) (fun _ b => (i_no h8 a b).elim) (fun _ b => (i_no h8 a b).elim)
  · exact ys_hid (σ := σ) (ρ := ρ) h8 hp (fun c => (i_no h8 c b).elim) (fun _ _ => br_f (by decide) (ys_hid (σ := σ) (ρ := ρ) h8 hp (fun c => (i_no h8 c b).elim) (fun _ _ => g _) (fun e _ => absurd e a))) (fun e _ => absurd e a)
  · obtain ⟨t, ht, rfl⟩ := b
    obtain ⟨fF, fP, fO⟩ := f2 a
    obtain ⟨o1, o2, o3, o4⟩ := fO t ht
    have hfl := (fF.2.2.1 t (by omega)).2.2.2
    have dY : D (nI t).toNatClampNeg = nI (if (σ 23) t = 0 then 1 else 0) := by rw [ft_rR (a := D) (i := t) (by omega), o1]
    refine And.intro (ft_in (by omega)) (pk_eq ((σ 23) t) 0 (fun e => ?_) (fun e => ?_) (ft_rd (by omega)) rfl (by omega) (by omega))
    · refine ys_hid (σ := σ) (ρ := ρ) h8 hp (fun c => (i_no h8 c ⟨t, ht, rfl⟩).elim) (fun e' _ => absurd a e') (fun _ _ => br_t (by decide) (And.intro (ft_in (by omega)) (br_f ?_ (g _))))
      rw [dY, if_pos e]
      decide
    · refine ys_hid (σ := σ) (ρ := ρ) h8 hp (fun c => (i_no h8 c ⟨t, ht, rfl⟩).elim) (fun e' _ => absurd a e') (fun _ _ => br_t (by decide) (And.intro (ft_in (by omega)) (br_t ?_ (g _))))
      rw [dY, if_neg e]
      rfl
theorem i_vc_outs {k : Nat} {u : SX} {v : SY} (I : i_Rel k u v) (hk : k + 4 ≤ 2049) (v1 : Int32) : wpX_outs (fun r => wpY_outs (fun r' => r' = r ∧ i_Rel (k + 4) u v) v v1) u v1 := by
  have I4 := i_up I
  obtain ⟨σ, ρ, X, Y, D, O, Q, T, R, B, rfl, rfl, F⟩ := I
  obtain ⟨hB, hp, f1, f2⟩ := F
  have h8 := hB.1
  have g : ∀ r : Int32, r = r ∧ i_Rel (k + 4) (ft_cv σ ρ) (i_yv σ ρ X Y D O Q T R B) := fun r : Int32 => ⟨rfl, I4⟩
  unfold wpX_outs wpY_outs
  refine xs_sec (σ := σ) (ρ := ρ) h8 hp (fun a => br_f (by decide) ?_) (fun a b => br_f (by decide) ?_) (fun a b => br_t (by decide) ?_)
  · exact ys_hid (σ := σ) (ρ := ρ) h8 hp (fun _ => br_f (by decide) (ys_hid (σ := σ) (ρ := ρ) h8 hp (fun _ => g _) (fun _ b => (i_no h8 a b).elim) (fun _ b => (i_no h8 a b).elim))) (fun _ b => (i_no h8 a b).elim) (fun _ b => (i_no h8 a b).elim)
  · exact ys_hid (σ := σ) (ρ := ρ) h8 hp (fun c => (i_no h8 c b).elim) (fun _ _ => br_f (by decide) (ys_hid (σ := σ) (ρ := ρ) h8 hp (fun c => (i_no h8 c b).elim) (fun _ _ => g _) (fun e _ => absurd e a))) (fun e _ => absurd e a)
  · obtain ⟨t, ht, rfl⟩ := b
    obtain ⟨fF, fP, fO⟩ := f2 a
    obtain ⟨o1, o2, o3, o4⟩ := fO t ht
    have hfl := (fF.2.2.1 t (by omega)).2.2.2
    have oY : O (nI t).toNatClampNeg = nI (if (σ 23) t = 0 then (σ 24) t else 0) := by rw [ft_rR (a := O) (i := t) (by omega), o2]
    refine And.intro (ft_in (by omega)) (pk_eq ((σ 23) t) 0 (fun e => And.intro (ft_in (by omega)) ?_) (fun e => ?_) (ft_rd (by omega)) rfl (by omega) (by omega))
    · refine ys_hid (σ := σ) (ρ := ρ) h8 hp (fun c => (i_no h8 c ⟨t, ht, rfl⟩).elim) (fun e' _ => absurd a e') (fun _ _ => br_t (by decide) (And.intro (ft_in (by omega)) ⟨?_, I4⟩))
      rw [oY, if_pos e]
      exact (ft_rd (by omega)).symm
    · refine ys_hid (σ := σ) (ρ := ρ) h8 hp (fun c => (i_no h8 c ⟨t, ht, rfl⟩).elim) (fun e' _ => absurd a e') (fun _ _ => br_t (by decide) (And.intro (ft_in (by omega)) ⟨?_, I4⟩))
      rw [oY, if_neg e]
      rfl
theorem i_vc_stored {k : Nat} {u : SX} {v : SY} (I : i_Rel k u v) (hk : k + 4 ≤ 2049) (v1 : Int32) : wpX_stored (fun r => wpY_stored (fun r' => r' = r ∧ i_Rel (k + 4) u v) v v1) u v1 := by
  have I4 := i_up I
  obtain ⟨σ, ρ, X, Y, D, O, Q, T, R, B, rfl, rfl, F⟩ := I
  obtain ⟨hB, hp, f1, f2⟩ := F
  have h8 := hB.1
  have g : ∀ r : Int32, r = r ∧ i_Rel (k + 4) (ft_cv σ ρ) (i_yv σ ρ X Y D O Q T R B) := fun r : Int32 => ⟨rfl, I4⟩
  unfold wpX_stored wpY_stored
  refine xs_sec (σ := σ) (ρ := ρ) h8 hp (fun a => br_f (by decide) ?_) (fun a b => br_f (by decide) ?_) (fun a b => br_t (by decide) ?_)
  · exact ys_hid (σ := σ) (ρ := ρ) h8 hp (fun _ => br_f (by decide) (ys_hid (σ := σ) (ρ := ρ) h8 hp (fun _ => g _) (fun _ b => (i_no h8 a b).elim) (fun _ b => (i_no h8 a b).elim))) (fun _ b => (i_no h8 a b).elim) (fun _ b => (i_no h8 a b).elim)
  · exact ys_hid (σ := σ) (ρ := ρ) h8 hp (fun c => (i_no h8 c b).elim) (fun _ _ => br_f (by decide) (ys_hid (σ := σ) (ρ := ρ) h8 hp (fun c => (i_no h8 c b).elim) (fun _ _ => g _) (fun e _ => absurd e a))) (fun e _ => absurd e a)
  · obtain ⟨t, ht, rfl⟩ := b
    obtain ⟨fF, fP, fO⟩ := f2 a
    obtain ⟨o1, o2, o3, o4⟩ := fO t ht
    refine And.intro (ft_in (by omega)) (ys_hid (σ := σ) (ρ := ρ) h8 hp (fun c => (i_no h8 c ⟨t, ht, rfl⟩).elim) (fun e' _ => absurd a e') (fun _ _ => br_t (by decide) (And.intro (ft_in (by omega)) ⟨?_, I4⟩)))
    rw [ft_rR (a := T) (i := t) (by omega), o3]
    exact (ft_rd (by omega)).symm
theorem i_vc_out {k : Nat} {u : SX} {v : SY} (I : i_Rel k u v) (hk : k + 4 ≤ 2049) (v1 : Int32) (v2 : Int32) : wpX_out (fun r => wpY_out (fun r' => r' = r ∧ i_Rel (k + 4) u v) v v1 v2) u v1 v2 := by
  have I4 := i_up I
  obtain ⟨σ, ρ, X, Y, D, O, Q, T, R, B, rfl, rfl, F⟩ := I
  obtain ⟨hB, hp, f1, f2⟩ := F
  have h8 := hB.1
  have g : ∀ r : Int32, r = r ∧ i_Rel (k + 4) (ft_cv σ ρ) (i_yv σ ρ X Y D O Q T R B) := fun r : Int32 => ⟨rfl, I4⟩
  have neg1 : ∀ x : Int32, ¬ v2 < 0 → x < 0 → x ≤ v2 := by
    intro x h1 h2
    have a := Int32.lt_iff_toInt_lt.mp h2
    have b := Int32.le_iff_toInt_le.mp (Int32.not_lt.mp h1)
    exact Int32.le_iff_toInt_le.mpr (by omega)
  unfold wpX_out wpY_out
  by_cases n2 : v2 < 0
  · refine br_t n2 ?_
    exact ys_hid (σ := σ) (ρ := ρ) h8 hp (fun _ => br_t (by decide) (g _)) (fun _ _ => br_t (by decide) (g _)) (fun _ _ => br_f (by decide) (br_t n2 (g _)))
  refine br_f n2 ?_
  unfold wpX_outs
  refine xs_sec (σ := σ) (ρ := ρ) h8 hp (fun a => br_f (by decide) (br_t (neg1 _ n2 (by decide)) ?_)) (fun a b => br_f (by decide) (br_t (neg1 _ n2 (by decide)) ?_)) (fun a b => br_t (by decide) ?_)
  · exact ys_hid (σ := σ) (ρ := ρ) h8 hp (fun _ => br_t (by decide) (g _)) (fun _ b => (i_no h8 a b).elim) (fun _ b => (i_no h8 a b).elim)
  · exact ys_hid (σ := σ) (ρ := ρ) h8 hp (fun c => (i_no h8 c b).elim) (fun _ _ => br_t (by decide) (g _)) (fun e _ => absurd e a)
  · obtain ⟨t, ht, rfl⟩ := b
    obtain ⟨fF, fP, fO⟩ := f2 a
    obtain ⟨o1, o2, o3, o4⟩ := fO t ht
    obtain ⟨_, _, hoc, hfl⟩ := fF.2.2.1 t (by omega)
    have oY : O (nI t).toNatClampNeg = nI (if (σ 23) t = 0 then (σ 24) t else 0) := by rw [ft_rR (a := O) (i := t) (by omega), o2]
    obtain ⟨j, hj, rfl⟩ := nI_of n2
    refine And.intro (ft_in (by omega)) (pk_eq ((σ 23) t) 0 (fun e => And.intro (ft_in (by omega)) (pk_le ((σ 24) t) j (fun hle => ?_) (fun hlt => And.intro (ft_inE (ft_l12 t j) (by omega)) ?_) (ft_rd (by omega)) rfl (by omega) (by omega))) (fun e => br_t (nI_pos' hj) ?_) (ft_rd (by omega)) rfl (by omega) (by omega))
    · refine ys_hid (σ := σ) (ρ := ρ) h8 hp (fun c => (i_no h8 c ⟨t, ht, rfl⟩).elim) (fun e' _ => absurd a e') (fun _ _ => br_f (by decide) (br_f n2 (And.intro (ft_in (by omega)) (br_f ?_ (g _)))))
      rw [oY, if_pos e]
      exact nI_nlt hle hj
    · refine ys_hid (σ := σ) (ρ := ρ) h8 hp (fun c => (i_no h8 c ⟨t, ht, rfl⟩).elim) (fun e' _ => absurd a e') (fun _ _ => br_f (by decide) (br_f n2 (And.intro (ft_in (by omega)) (br_t ?_ (And.intro (ft_inE (ft_l12 t j) (by omega)) ⟨?_, I4⟩)))))
      · rw [oY, if_pos e]
        exact nI_lt hlt (by omega)
      · rw [ft_rRI (a := Q) (ft_l12 t j) (by omega), ft_rRI (a := (ρ 25)) (ft_l12 t j) (by omega)]
        exact o4 e j hlt
    · refine ys_hid (σ := σ) (ρ := ρ) h8 hp (fun c => (i_no h8 c ⟨t, ht, rfl⟩).elim) (fun e' _ => absurd a e') (fun _ _ => br_f (by decide) (br_f n2 (And.intro (ft_in (by omega)) (br_f ?_ (g _)))))
      rw [oY, if_neg e]
      exact nI_nlt (Nat.zero_le _) hj
end
section
/-! run, work, faults -/
theorem xw_run22 {post : Int32 → SX → Prop} {σ : Nat → Nat → Nat} {ρ : Nat → Nat → Int32} {x1 : Int32} (I : iv_I 0 iv_N σ ρ) (hc : (σ 6 0) ≤ 2000000) (H : ∀ σ' ρ', iv_I 0 iv_N σ' ρ' → it_G σ ρ σ' ρ' → ft_AD σ' → wX_run_63 post (nI (σ' 0 0)) (nI (σ' 1 0)) (nI (σ' 2 0)) (nI (σ' 3 0)) (nI (σ' 4 0)) (ρ' 5 0) (nI (σ' 6 0)) (ρ' 7 0) (ρ' 8) (ft_nA (σ' 9)) (ft_nA (σ' 10)) (ft_nA (σ' 11)) (ρ' 12) (ρ' 13) (ft_nA (σ' 14)) (ft_nA (σ' 15)) (ft_nA (σ' 16)) (ft_nA (σ' 17)) (ft_nA (σ' 18)) (ft_nA (σ' 19)) (ft_nA (σ' 20)) (ft_nB (σ' 21)) (ft_nA (σ' 22)) (ft_nA (σ' 23)) (ft_nA (σ' 24)) (ρ' 25) (ft_nA (σ' 26)) (ft_nA (σ' 27)) (ft_nA (σ' 28)) (ft_nA (σ' 29)) (ρ' 30) (ft_nA (σ' 31)) (ρ' 32) (ft_nA (σ' 33))) : wX_run_22 post x1 (nI (σ 0 0)) (nI (σ 1 0)) (nI (σ 2 0)) (nI (σ 3 0)) (nI (σ 4 0)) (ρ 5 0) (nI (σ 6 0)) (ρ 7 0) (ρ 8) (ft_nA (σ 9)) (ft_nA (σ 10)) (ft_nA (σ 11)) (ρ 12) (ρ 13) (ft_nA (σ 14)) (ft_nA (σ 15)) (ft_nA (σ 16)) (ft_nA (σ 17)) (ft_nA (σ 18)) (ft_nA (σ 19)) (ft_nA (σ 20)) (ft_nB (σ 21)) (ft_nA (σ 22)) (ft_nA (σ 23)) (ft_nA (σ 24)) (ρ 25) (ft_nA (σ 26)) (ft_nA (σ 27)) (ft_nA (σ 28)) (ft_nA (σ 29)) (ρ 30) (ft_nA (σ 31)) (ρ 32) (ft_nA (σ 33)) := by
  unfold wX_run_22
  refine nm_e ?_
  have I' : iv_I 0 iv_N σ (ft_ra ρ 5 (fun _ => (ρ 5 0) ^^^ x1)) := I
  obtain ⟨m, hm, K, _⟩ := rk_ex ((σ 6 0)) I' ((σ 0 0)) 0 (by omega) (fun t ht => absurd ht (Nat.not_lt_zero _))
  have h8 := I.1.1
  exact ⟨m + 1, xw_run34 (σ0 := σ) (ρ0 := ρ) H (m + 1) m 0 σ (ft_ra ρ 5 (fun _ => (ρ 5 0) ^^^ x1)) (by omega) (by omega) I' (it_Gr σ ρ) K (by omega)⟩
theorem xw_run63 {post : Int32 → SX → Prop} {σ : Nat → Nat → Nat} {ρ : Nat → Nat → Int32} (I : iv_I 0 iv_N σ ρ) (h : post (nI (ft_ct ((σ 23)) ((σ 0 0)))) (ft_cv (ft_sc σ 1 2) (ft_ra ρ 8 (ft_cs ((ρ 8)) ((ρ 13)) ((σ 15)) ((σ 0 0)) 16)))) : wX_run_63 post (nI (σ 0 0)) (nI (σ 1 0)) (nI (σ 2 0)) (nI (σ 3 0)) (nI (σ 4 0)) (ρ 5 0) (nI (σ 6 0)) (ρ 7 0) (ρ 8) (ft_nA (σ 9)) (ft_nA (σ 10)) (ft_nA (σ 11)) (ρ 12) (ρ 13) (ft_nA (σ 14)) (ft_nA (σ 15)) (ft_nA (σ 16)) (ft_nA (σ 17)) (ft_nA (σ 18)) (ft_nA (σ 19)) (ft_nA (σ 20)) (ft_nB (σ 21)) (ft_nA (σ 22)) (ft_nA (σ 23)) (ft_nA (σ 24)) (ρ 25) (ft_nA (σ 26)) (ft_nA (σ 27)) (ft_nA (σ 28)) (ft_nA (σ 29)) (ρ 30) (ft_nA (σ 31)) (ρ 32) (ft_nA (σ 33)) := by
  have h8 := I.1.1
  unfold wX_run_63
  refine xw_commit (σ := σ) (ρ := ρ) h8 ⟨(σ 0 0) + 1, ?_⟩
  exact xw_run71 (σ := ft_sc σ 1 2) (ρ := ft_ra ρ 8 (ft_cs ((ρ 8)) ((ρ 13)) ((σ 15)) ((σ 0 0)) 16)) h8 (fun t ht => (I.2.2.1 t ht).2.2.2.2.2) h ((σ 0 0)) 0 (show 0 + (σ 0 0) = (σ 0 0) by omega)
/-- both ends of a run -/
theorem i_run {k : Nat} {σ : Nat → Nat → Nat} {ρ : Nat → Nat → Int32} {σ0 : Nat → Nat → Nat} {X Y : Int32} {D O Q T R B : Nat → Int32} {v1 : Int32} {σ' : Nat → Nat → Nat} {ρ' : Nat → Nat → Int32} (hph : (σ0 1 0) ≤ 2) (h2 : (σ0 1 0) ≠ 2) (e1 : (σ0 0 0) = (σ 0 0)) (e2 : (σ0 9) = (σ 9)) (e3 : (σ0 10) = (σ 10)) (e4 : (σ0 11) = (σ 11)) (I : iv_I 0 iv_N σ' ρ') (G : it_G σ ρ σ' ρ') (A : ft_AD σ') : wpY_run (fun r' v' => r' = nI (ft_ct ((σ' 23)) ((σ' 0 0))) ∧ i_Rel (k + 4) (ft_cv (ft_sc σ' 1 2) (ft_ra ρ' 8 (ft_cs ((ρ' 8)) ((ρ' 13)) ((σ' 15)) ((σ' 0 0)) 16))) v') (i_yv σ0 ρ X Y D O Q T R B) v1 := by
  obtain ⟨g1, g2, g3, g4, g5, g6, g7, g8⟩ := G
  have P : rk_P σ' ((σ' 0 0)) := iv_done I A _ (Nat.le_refl _)
  have hc := sq_commit I P
  obtain ⟨_, hres⟩ := sq_view I P ((σ' 0 0)) (Nat.le_refl _)
  have hB := I.1
  have hF := iv_FI I
  rw [hc]
  unfold i_yv
  rw [e1, e2, e3, e4]
  rw [← g1, ← g4, ← g5, ← g6, ← g7, ← g8]
  refine yw_run (ln := (σ' 9)) (op := (σ' 10)) (pl := (σ' 11)) (i_ne2 hph h2) hB.1 rfl rfl rfl hB.2.2.2.1 hB.2.2.2.2.1 (fun X' Y' D' O' Q' T' R' B' hA => ⟨?_, ?_⟩)
  · refine congrArg nI (ft_ctE _ (fun s hs => ?_))
    exact (hres s hs).1.symm
  · refine i_mk (σ := ft_sc σ' 1 2) (ρ := ft_ra ρ' 8 (sq_S ((σ' 9)) ((σ' 10)) ((σ' 11)) ((ρ' 12)) ((ρ' 8)) ((σ' 0 0)))) ⟨hB, Nat.le_refl _, fun e => absurd (show (2 : Nat) = 1 from e) (by decide), fun _ => ⟨hF, P, ?_⟩⟩
    intro t ht
    obtain ⟨r1, r2, r3, r4, r5⟩ := hres t ht
    obtain ⟨a1, a2, a3, a4⟩ := hA t ht
    show D' t = nI (if (σ' 23) t = 0 then 1 else 0) ∧ O' t = nI (if (σ' 23) t = 0 then (σ' 24) t else 0) ∧ T' t = nI ((σ' 15) t) ∧ ((σ' 23) t = 0 → ∀ k, k < (σ' 24) t → Q' (12 * t + k) = (ρ' 25) (12 * t + k))
    rw [r1, r2, r3]
    refine ⟨a1, a2, a3, fun hf k hk => ?_⟩
    rw [r4 k (by rw [r3]; exact hk)]
    exact a4 hf k hk
theorem i_vc_run {k : Nat} {u : SX} {v : SY} (I : i_Rel k u v) (hk : k + 4 ≤ 2049) (v1 : Int32) : wpX_run (fun r u' => wpY_run (fun r' v' => r' = r ∧ i_Rel (k + 4) u' v') v v1) u v1 := by
  obtain ⟨σ, ρ, X, Y, D, O, Q, T, R, B, rfl, rfl, F⟩ := I
  have F4 := i_Fu F
  obtain ⟨hB, hp, f1, f2⟩ := F
  unfold wpX_run ft_cv
  refine pk_eq ((σ 1 0)) 2 (fun e2 => ?_) (fun n2 => pk_eq ((σ 1 0)) 0 (fun e0 => ?_) (fun n0 => ?_) rfl rfl (by omega) (by omega)) rfl rfl (by omega) (by omega)
  · unfold wpY_run i_yv
    exact pk_eq ((σ 1 0)) 2 (fun _ => ⟨rfl, i_mk F4⟩) (fun e => absurd e2 e) rfl rfl (by omega) (by omega)
  · refine xw_start (σ := σ) (ρ := ρ) (xw_run22 (σ := ft_sta σ) (ρ := ρ) (it_sta hB) (Nat.zero_le _) (fun σ' ρ' I' G' A' => xw_run63 I' ?_))
    exact i_run (σ := ft_sta σ) (ρ := ρ) (σ0 := σ) hp n2 rfl rfl rfl rfl I' G' A'
  · obtain ⟨I0, hc⟩ := f1 (by omega)
    refine xw_run22 (σ := σ) (ρ := ρ) I0 (by omega) (fun σ' ρ' I' G' A' => xw_run63 I' ?_)
    exact i_run (σ := σ) (ρ := ρ) (σ0 := σ) hp n2 rfl rfl rfl rfl I' G' A'
theorem xw_work22 {post : Int32 → SX → Prop} {σ : Nat → Nat → Nat} {ρ : Nat → Nat → Int32} {x1 x2 : Int32} (I : iv_I 0 iv_N σ ρ) (hc : (σ 6 0) ≤ 2000000) (H : ∀ σ' ρ', iv_I 0 iv_N σ' ρ' → it_G σ ρ σ' ρ' → (σ' 6 0) ≤ (σ 6 0) + 2000 → post 0 (ft_cv σ' ρ')) : wX_work_22 post x1 x2 (nI (σ 0 0)) (nI (σ 1 0)) (nI (σ 2 0)) (nI (σ 3 0)) (nI (σ 4 0)) (ρ 5 0) (nI (σ 6 0)) (ρ 7 0) (ρ 8) (ft_nA (σ 9)) (ft_nA (σ 10)) (ft_nA (σ 11)) (ρ 12) (ρ 13) (ft_nA (σ 14)) (ft_nA (σ 15)) (ft_nA (σ 16)) (ft_nA (σ 17)) (ft_nA (σ 18)) (ft_nA (σ 19)) (ft_nA (σ 20)) (ft_nB (σ 21)) (ft_nA (σ 22)) (ft_nA (σ 23)) (ft_nA (σ 24)) (ρ 25) (ft_nA (σ 26)) (ft_nA (σ 27)) (ft_nA (σ 28)) (ft_nA (σ 29)) (ρ 30) (ft_nA (σ 31)) (ρ 32) (ft_nA (σ 33)) := by
  unfold wX_work_22
  refine nm_e ?_
  have I' : iv_I 0 iv_N σ (ft_ra ρ 5 (fun _ => (ρ 5 0) ^^^ x1)) := I
  exact ⟨2001, xw_work34 (c0 := (σ 6 0)) (σ0 := σ) (ρ0 := ρ) (by omega) H 2000 0 σ (ft_ra ρ 5 (fun _ => (ρ 5 0) ^^^ x1)) (by omega) I' (it_Gr σ ρ) (by omega)⟩
theorem i_work {k : Nat} {σ : Nat → Nat → Nat} {ρ : Nat → Nat → Int32} {σ0 : Nat → Nat → Nat} {X Y : Int32} {D O Q T R B : Nat → Int32} {v1 v2 : Int32} {σ' : Nat → Nat → Nat} {ρ' : Nat → Nat → Int32} (hph : (σ0 1 0) ≤ 2) (h2 : (σ0 1 0) ≠ 2) (h1 : (σ 1 0) = 1) (e1 : (σ0 0 0) = (σ 0 0)) (e2 : (σ0 9) = (σ 9)) (e3 : (σ0 10) = (σ 10)) (e4 : (σ0 11) = (σ 11)) (I : iv_I 0 iv_N σ' ρ') (G : it_G σ ρ σ' ρ') (hc : (σ' 6 0) ≤ 500 * (k + 4)) : wpY_work (fun r' v' => r' = 0 ∧ i_Rel (k + 4) (ft_cv σ' ρ') v') (i_yv σ0 ρ X Y D O Q T R B) v1 v2 := by
  obtain ⟨g1, g2, g3, g4, g5, g6, g7, g8⟩ := G
  have hp' : (σ' 1 0) = 1 := g2.trans h1
  unfold wpY_work i_yv
  rw [e1, e2, e3, e4]
  rw [← g1, ← g4, ← g5, ← g6, ← g7, ← g8]
  refine br_f (i_ne2 hph h2) ⟨rfl, ?_⟩
  have M := i_mk (k := k + 4) (σ := σ') (ρ := ρ') (X := X) (Y := Y) (D := D) (O := O) (Q := Q) (T := T) (R := R) (B := B) ⟨I.1, by omega, fun _ => ⟨I, hc⟩, fun e => absurd e (by omega)⟩
  unfold i_yv at M
  rw [hp'] at M
  exact M
theorem i_vc_work {k : Nat} {u : SX} {v : SY} (I : i_Rel k u v) (hk : k + 4 ≤ 2049) (v1 : Int32) (v2 : Int32) : wpX_work (fun r u' => wpY_work (fun r' v' => r' = r ∧ i_Rel (k + 4) u' v') v v1 v2) u v1 v2 := by
  obtain ⟨σ, ρ, X, Y, D, O, Q, T, R, B, rfl, rfl, F⟩ := I
  have F4 := i_Fu F
  obtain ⟨hB, hp, f1, f2⟩ := F
  unfold wpX_work ft_cv
  refine pk_eq ((σ 1 0)) 2 (fun e2 => ?_) (fun n2 => pk_eq ((σ 1 0)) 0 (fun e0 => ?_) (fun n0 => ?_) rfl rfl (by omega) (by omega)) rfl rfl (by omega) (by omega)
  · unfold wpY_work i_yv
    exact pk_eq ((σ 1 0)) 2 (fun _ => ⟨rfl, i_mk F4⟩) (fun e => absurd e2 e) rfl rfl (by omega) (by omega)
  · refine xw_start (σ := σ) (ρ := ρ) (xw_work22 (σ := ft_sta σ) (ρ := ρ) (it_sta hB) (Nat.zero_le _) (fun σ' ρ' I' G' hc' => ?_))
    have hc2 : (σ' 6 0) ≤ 0 + 2000 := hc'
    exact i_work (σ := ft_sta σ) (ρ := ρ) (σ0 := σ) hp n2 rfl rfl rfl rfl rfl I' G' (by omega)
  · obtain ⟨I0, hc⟩ := f1 (by omega)
    refine xw_work22 (σ := σ) (ρ := ρ) I0 (by omega) (fun σ' ρ' I' G' hc' => ?_)
    exact i_work (σ := σ) (ρ := ρ) (σ0 := σ) hp n2 (by omega) rfl rfl rfl rfl I' G' (by omega)
theorem xw_faults0 {post : Int32 → SX → Prop} {σ : Nat → Nat → Nat} {ρ : Nat → Nat → Int32} (h0 : (σ 1 0) = 0) (h : post 0 (ft_cv σ (ft_ra ρ 7 (fun _ => 0)))) : wpX_faults post (ft_cv σ ρ) := by
  have e : nI ((σ 1 0)) = 0 := by rw [h0]; rfl
  unfold wpX_faults ft_cv
  refine br_f (by rw [e]; decide) ⟨1, br_c (fun _ => h) (fun _ => br_t (by rw [e]; decide) h)⟩
theorem i_vc_faults {k : Nat} {u : SX} {v : SY} (I : i_Rel k u v) (hk : k + 4 ≤ 2049) : wpX_faults (fun r u' => wpY_faults (fun r' => r' = r ∧ i_Rel (k + 4) u' v) v) u := by
  obtain ⟨σ, ρ, X, Y, D, O, Q, T, R, B, rfl, rfl, F⟩ := I
  have F4 : i_F (k + 4) σ (ft_ra ρ 7 (fun _ => 0)) D O Q T := i_Fu F
  have M : i_Rel (k + 4) (ft_cv σ (ft_ra ρ 7 (fun _ => 0))) (i_yv σ ρ X Y D O Q T R B) := i_mk (σ := σ) (ρ := ft_ra ρ 7 (fun _ => 0)) (X := X) (Y := Y) (R := R) (B := B) F4
  obtain ⟨hB, hp, f1, f2⟩ := F
  have hcase : (σ 1 0) = 0 ∨ (σ 1 0) = 1 ∨ (σ 1 0) = 2 := by omega
  rcases hcase with h | h | h
  · exact xw_faults0 h ⟨rfl, M⟩
  · obtain ⟨I0, hc⟩ := f1 h
    exact xw_faults (iv_FI I0) (Or.inl ⟨h, I0, by omega⟩) ⟨rfl, M⟩
  · obtain ⟨a, b, c⟩ := f2 h
    exact xw_faults a (Or.inr (Or.inl ⟨h, b⟩)) ⟨rfl, M⟩
end
